section
/-- a private method of a class that the tables say can be made, by its rows of tables_1 -/
def lw_okq (q : MethodName × Nat) : Prop := (q.1.cls ≠ "java/lang/invoke/MethodHandle" ∧ q.1.cls ≠ "java/lang/invoke/VarHandle") ∧ Cond.instantiable q.1.cls q.2 ∈ tables_1 ∧ Cond.privateMethod q.1 ∈ tables_1 ∧ Cond.instanceMethod q.1 ∈ tables_1
set_option maxRecDepth 100000
theorem lw_t1 {w : Cond} (h : w ∈ tables_1_1) : w ∈ tables_1 := List.mem_append_left _ h
theorem lw_t2 {w : Cond} (h : w ∈ tables_1_2) : w ∈ tables_1 := List.mem_append_right _ h
theorem lw_p0 : lw_okq (⟨"ExampleLearner", "typed", "()V"⟩, 14) := ⟨⟨by decide +kernel, by decide +kernel⟩, lw_t1 (List.mem_of_getElem? (i := 4) rfl), lw_t1 (List.mem_of_getElem? (i := 61) rfl), lw_t1 (List.mem_of_getElem? (i := 62) rfl)⟩
theorem lw_p1 : lw_okq (⟨"ExampleLearner", "relearned", "()V"⟩, 14) := ⟨⟨by decide +kernel, by decide +kernel⟩, lw_t1 (List.mem_of_getElem? (i := 4) rfl), lw_t1 (List.mem_of_getElem? (i := 77) rfl), lw_t1 (List.mem_of_getElem? (i := 78) rfl)⟩
theorem lw_p2 : lw_okq (⟨"ExampleLearner", "leastCount", "()I"⟩, 14) := ⟨⟨by decide +kernel, by decide +kernel⟩, lw_t1 (List.mem_of_getElem? (i := 4) rfl), lw_t1 (List.mem_of_getElem? (i := 89) rfl), lw_t1 (List.mem_of_getElem? (i := 90) rfl)⟩
theorem lw_p3 : lw_okq (⟨"ExampleLearner", "count", "(I)V"⟩, 14) := ⟨⟨by decide +kernel, by decide +kernel⟩, lw_t1 (List.mem_of_getElem? (i := 4) rfl), lw_t1 (List.mem_of_getElem? (i := 93) rfl), lw_t1 (List.mem_of_getElem? (i := 94) rfl)⟩
theorem lw_p4 : lw_okq (⟨"ExampleLearner", "followAll", "(I)V"⟩, 14) := ⟨⟨by decide +kernel, by decide +kernel⟩, lw_t1 (List.mem_of_getElem? (i := 4) rfl), lw_t1 (List.mem_of_getElem? (i := 97) rfl), lw_t1 (List.mem_of_getElem? (i := 98) rfl)⟩
theorem lw_p5 : lw_okq (⟨"ExampleLearner", "followAtom", "(II)V"⟩, 14) := ⟨⟨by decide +kernel, by decide +kernel⟩, lw_t1 (List.mem_of_getElem? (i := 4) rfl), lw_t1 (List.mem_of_getElem? (i := 101) rfl), lw_t1 (List.mem_of_getElem? (i := 102) rfl)⟩
theorem lw_p6 : lw_okq (⟨"ExampleLearner", "sizeOf", "(II)I"⟩, 14) := ⟨⟨by decide +kernel, by decide +kernel⟩, lw_t1 (List.mem_of_getElem? (i := 4) rfl), lw_t1 (List.mem_of_getElem? (i := 105) rfl), lw_t1 (List.mem_of_getElem? (i := 106) rfl)⟩
theorem lw_p7 : lw_okq (⟨"ExampleLearner", "placeOf", "(II)I"⟩, 14) := ⟨⟨by decide +kernel, by decide +kernel⟩, lw_t1 (List.mem_of_getElem? (i := 4) rfl), lw_t1 (List.mem_of_getElem? (i := 112) rfl), lw_t1 (List.mem_of_getElem? (i := 113) rfl)⟩
theorem lw_p8 : lw_okq (⟨"ExampleLearner", "gives", "(IIII)Z"⟩, 14) := ⟨⟨by decide +kernel, by decide +kernel⟩, lw_t1 (List.mem_of_getElem? (i := 4) rfl), lw_t1 (List.mem_of_getElem? (i := 119) rfl), lw_t1 (List.mem_of_getElem? (i := 120) rfl)⟩
theorem lw_p9 : lw_okq (⟨"ExampleLearner", "letterOf", "(III)I"⟩, 14) := ⟨⟨by decide +kernel, by decide +kernel⟩, lw_t1 (List.mem_of_getElem? (i := 4) rfl), lw_t1 (List.mem_of_getElem? (i := 123) rfl), lw_t1 (List.mem_of_getElem? (i := 124) rfl)⟩
theorem lw_p10 : lw_okq (⟨"ExampleLearner", "lastNode", "(I)I"⟩, 14) := ⟨⟨by decide +kernel, by decide +kernel⟩, lw_t1 (List.mem_of_getElem? (i := 4) rfl), lw_t1 (List.mem_of_getElem? (i := 127) rfl), lw_t1 (List.mem_of_getElem? (i := 128) rfl)⟩
theorem lw_p11 : lw_okq (⟨"ExampleLearner", "exists", "(II)Z"⟩, 14) := ⟨⟨by decide +kernel, by decide +kernel⟩, lw_t1 (List.mem_of_getElem? (i := 4) rfl), lw_t1 (List.mem_of_getElem? (i := 131) rfl), lw_t1 (List.mem_of_getElem? (i := 132) rfl)⟩
theorem lw_p12 : lw_okq (⟨"ExampleLearner", "countFrom", "(III)I"⟩, 14) := ⟨⟨by decide +kernel, by decide +kernel⟩, lw_t1 (List.mem_of_getElem? (i := 4) rfl), lw_t1 (List.mem_of_getElem? (i := 135) rfl), lw_t1 (List.mem_of_getElem? (i := 136) rfl)⟩
theorem lw_p13 : lw_okq (⟨"ExampleLearner", "step", "(III)I"⟩, 14) := ⟨⟨by decide +kernel, by decide +kernel⟩, lw_t1 (List.mem_of_getElem? (i := 4) rfl), lw_t1 (List.mem_of_getElem? (i := 139) rfl), lw_t1 (List.mem_of_getElem? (i := 140) rfl)⟩
theorem lw_p14 : lw_okq (⟨"ExampleLearner", "stepIn", "(IIII)I"⟩, 14) := ⟨⟨by decide +kernel, by decide +kernel⟩, lw_t1 (List.mem_of_getElem? (i := 4) rfl), lw_t1 (List.mem_of_getElem? (i := 143) rfl), lw_t1 (List.mem_of_getElem? (i := 144) rfl)⟩
theorem lw_p15 : lw_okq (⟨"ExampleLearner", "findFirst", "()V"⟩, 14) := ⟨⟨by decide +kernel, by decide +kernel⟩, lw_t1 (List.mem_of_getElem? (i := 4) rfl), lw_t1 (List.mem_of_getElem? (i := 155) rfl), lw_t1 (List.mem_of_getElem? (i := 156) rfl)⟩
def lw_privs_1 : List (MethodName × Nat) := [(⟨"ExampleLearner", "typed", "()V"⟩, 14), (⟨"ExampleLearner", "relearned", "()V"⟩, 14), (⟨"ExampleLearner", "leastCount", "()I"⟩, 14), (⟨"ExampleLearner", "count", "(I)V"⟩, 14), (⟨"ExampleLearner", "followAll", "(I)V"⟩, 14), (⟨"ExampleLearner", "followAtom", "(II)V"⟩, 14), (⟨"ExampleLearner", "sizeOf", "(II)I"⟩, 14), (⟨"ExampleLearner", "placeOf", "(II)I"⟩, 14), (⟨"ExampleLearner", "gives", "(IIII)Z"⟩, 14), (⟨"ExampleLearner", "letterOf", "(III)I"⟩, 14), (⟨"ExampleLearner", "lastNode", "(I)I"⟩, 14), (⟨"ExampleLearner", "exists", "(II)Z"⟩, 14), (⟨"ExampleLearner", "countFrom", "(III)I"⟩, 14), (⟨"ExampleLearner", "step", "(III)I"⟩, 14), (⟨"ExampleLearner", "stepIn", "(IIII)I"⟩, 14), (⟨"ExampleLearner", "findFirst", "()V"⟩, 14)]
theorem lw_r1 : ∀ q ∈ lw_privs_1, lw_okq q := List.forall_mem_cons.mpr ⟨lw_p0, List.forall_mem_cons.mpr ⟨lw_p1, List.forall_mem_cons.mpr ⟨lw_p2, List.forall_mem_cons.mpr ⟨lw_p3, List.forall_mem_cons.mpr ⟨lw_p4, List.forall_mem_cons.mpr ⟨lw_p5, List.forall_mem_cons.mpr ⟨lw_p6, List.forall_mem_cons.mpr ⟨lw_p7, List.forall_mem_cons.mpr ⟨lw_p8, List.forall_mem_cons.mpr ⟨lw_p9, List.forall_mem_cons.mpr ⟨lw_p10, List.forall_mem_cons.mpr ⟨lw_p11, List.forall_mem_cons.mpr ⟨lw_p12, List.forall_mem_cons.mpr ⟨lw_p13, List.forall_mem_cons.mpr ⟨lw_p14, List.forall_mem_cons.mpr ⟨lw_p15, fun _ h => absurd h List.not_mem_nil⟩⟩⟩⟩⟩⟩⟩⟩⟩⟩⟩⟩⟩⟩⟩⟩
theorem lw_p16 : lw_okq (⟨"ExampleLearner", "goesOn", "(III)Z"⟩, 14) := ⟨⟨by decide +kernel, by decide +kernel⟩, lw_t1 (List.mem_of_getElem? (i := 4) rfl), lw_t1 (List.mem_of_getElem? (i := 159) rfl), lw_t1 (List.mem_of_getElem? (i := 160) rfl)⟩
theorem lw_p17 : lw_okq (⟨"ExampleLearner", "waysForQuery", "()I"⟩, 14) := ⟨⟨by decide +kernel, by decide +kernel⟩, lw_t1 (List.mem_of_getElem? (i := 4) rfl), lw_t1 (List.mem_of_getElem? (i := 167) rfl), lw_t1 (List.mem_of_getElem? (i := 168) rfl)⟩
theorem lw_p18 : lw_okq (⟨"ExampleLearner", "run", "()Z"⟩, 14) := ⟨⟨by decide +kernel, by decide +kernel⟩, lw_t1 (List.mem_of_getElem? (i := 4) rfl), lw_t1 (List.mem_of_getElem? (i := 179) rfl), lw_t1 (List.mem_of_getElem? (i := 180) rfl)⟩
theorem lw_p19 : lw_okq (⟨"ExampleLearnerModel", "badLetter", "(I)Z"⟩, 9) := ⟨⟨by decide +kernel, by decide +kernel⟩, lw_t1 (List.mem_of_getElem? (i := 191) rfl), lw_t1 (List.mem_of_getElem? (i := 229) rfl), lw_t1 (List.mem_of_getElem? (i := 230) rfl)⟩
theorem lw_p20 : lw_okq (⟨"ExampleLearnerModel", "search", "(IZ)I"⟩, 9) := ⟨⟨by decide +kernel, by decide +kernel⟩, lw_t1 (List.mem_of_getElem? (i := 191) rfl), lw_t2 (List.mem_of_getElem? (i := 13) rfl), lw_t2 (List.mem_of_getElem? (i := 14) rfl)⟩
theorem lw_p21 : lw_okq (⟨"ExampleLearnerModel", "note", "(III)V"⟩, 9) := ⟨⟨by decide +kernel, by decide +kernel⟩, lw_t1 (List.mem_of_getElem? (i := 191) rfl), lw_t2 (List.mem_of_getElem? (i := 17) rfl), lw_t2 (List.mem_of_getElem? (i := 18) rfl)⟩
theorem lw_p22 : lw_okq (⟨"ExampleLearnerModel", "put", "(IIZ)Z"⟩, 9) := ⟨⟨by decide +kernel, by decide +kernel⟩, lw_t1 (List.mem_of_getElem? (i := 191) rfl), lw_t2 (List.mem_of_getElem? (i := 23) rfl), lw_t2 (List.mem_of_getElem? (i := 24) rfl)⟩
theorem lw_p23 : lw_okq (⟨"ExampleLearnerModel", "counts", "(IZ)Z"⟩, 9) := ⟨⟨by decide +kernel, by decide +kernel⟩, lw_t1 (List.mem_of_getElem? (i := 191) rfl), lw_t2 (List.mem_of_getElem? (i := 27) rfl), lw_t2 (List.mem_of_getElem? (i := 28) rfl)⟩
theorem lw_p24 : lw_okq (⟨"ExampleLearnerModel", "after", "(III)I"⟩, 9) := ⟨⟨by decide +kernel, by decide +kernel⟩, lw_t1 (List.mem_of_getElem? (i := 191) rfl), lw_t2 (List.mem_of_getElem? (i := 31) rfl), lw_t2 (List.mem_of_getElem? (i := 32) rfl)⟩
theorem lw_p25 : lw_okq (⟨"ExampleLearnerModel", "size", "(II)I"⟩, 9) := ⟨⟨by decide +kernel, by decide +kernel⟩, lw_t1 (List.mem_of_getElem? (i := 191) rfl), lw_t2 (List.mem_of_getElem? (i := 35) rfl), lw_t2 (List.mem_of_getElem? (i := 36) rfl)⟩
theorem lw_p26 : lw_okq (⟨"ExampleLearnerModel", "place", "(II)I"⟩, 9) := ⟨⟨by decide +kernel, by decide +kernel⟩, lw_t1 (List.mem_of_getElem? (i := 191) rfl), lw_t2 (List.mem_of_getElem? (i := 39) rfl), lw_t2 (List.mem_of_getElem? (i := 40) rfl)⟩
theorem lw_p27 : lw_okq (⟨"ExampleLearnerModel", "letter", "(III)I"⟩, 9) := ⟨⟨by decide +kernel, by decide +kernel⟩, lw_t1 (List.mem_of_getElem? (i := 191) rfl), lw_t2 (List.mem_of_getElem? (i := 43) rfl), lw_t2 (List.mem_of_getElem? (i := 44) rfl)⟩
theorem lw_p28 : lw_okq (⟨"ExampleLearnerModel", "seconds", "(IIZ)I"⟩, 9) := ⟨⟨by decide +kernel, by decide +kernel⟩, lw_t1 (List.mem_of_getElem? (i := 191) rfl), lw_t2 (List.mem_of_getElem? (i := 47) rfl), lw_t2 (List.mem_of_getElem? (i := 48) rfl)⟩
theorem lw_p29 : lw_okq (⟨"ExampleLearnerModel", "thirds", "(IIZ)I"⟩, 9) := ⟨⟨by decide +kernel, by decide +kernel⟩, lw_t1 (List.mem_of_getElem? (i := 191) rfl), lw_t2 (List.mem_of_getElem? (i := 51) rfl), lw_t2 (List.mem_of_getElem? (i := 52) rfl)⟩
theorem lw_p30 : lw_okq (⟨"ExampleLearnerModel", "whole", "(IZ)Z"⟩, 9) := ⟨⟨by decide +kernel, by decide +kernel⟩, lw_t1 (List.mem_of_getElem? (i := 191) rfl), lw_t2 (List.mem_of_getElem? (i := 55) rfl), lw_t2 (List.mem_of_getElem? (i := 56) rfl)⟩
theorem lw_p31 : lw_okq (⟨"ExampleLearnerModel", "make", "()I"⟩, 9) := ⟨⟨by decide +kernel, by decide +kernel⟩, lw_t1 (List.mem_of_getElem? (i := 191) rfl), lw_t2 (List.mem_of_getElem? (i := 81) rfl), lw_t2 (List.mem_of_getElem? (i := 82) rfl)⟩
def lw_privs_2 : List (MethodName × Nat) := [(⟨"ExampleLearner", "goesOn", "(III)Z"⟩, 14), (⟨"ExampleLearner", "waysForQuery", "()I"⟩, 14), (⟨"ExampleLearner", "run", "()Z"⟩, 14), (⟨"ExampleLearnerModel", "badLetter", "(I)Z"⟩, 9), (⟨"ExampleLearnerModel", "search", "(IZ)I"⟩, 9), (⟨"ExampleLearnerModel", "note", "(III)V"⟩, 9), (⟨"ExampleLearnerModel", "put", "(IIZ)Z"⟩, 9), (⟨"ExampleLearnerModel", "counts", "(IZ)Z"⟩, 9), (⟨"ExampleLearnerModel", "after", "(III)I"⟩, 9), (⟨"ExampleLearnerModel", "size", "(II)I"⟩, 9), (⟨"ExampleLearnerModel", "place", "(II)I"⟩, 9), (⟨"ExampleLearnerModel", "letter", "(III)I"⟩, 9), (⟨"ExampleLearnerModel", "seconds", "(IIZ)I"⟩, 9), (⟨"ExampleLearnerModel", "thirds", "(IIZ)I"⟩, 9), (⟨"ExampleLearnerModel", "whole", "(IZ)Z"⟩, 9), (⟨"ExampleLearnerModel", "make", "()I"⟩, 9)]
theorem lw_r2 : ∀ q ∈ lw_privs_2, lw_okq q := List.forall_mem_cons.mpr ⟨lw_p16, List.forall_mem_cons.mpr ⟨lw_p17, List.forall_mem_cons.mpr ⟨lw_p18, List.forall_mem_cons.mpr ⟨lw_p19, List.forall_mem_cons.mpr ⟨lw_p20, List.forall_mem_cons.mpr ⟨lw_p21, List.forall_mem_cons.mpr ⟨lw_p22, List.forall_mem_cons.mpr ⟨lw_p23, List.forall_mem_cons.mpr ⟨lw_p24, List.forall_mem_cons.mpr ⟨lw_p25, List.forall_mem_cons.mpr ⟨lw_p26, List.forall_mem_cons.mpr ⟨lw_p27, List.forall_mem_cons.mpr ⟨lw_p28, List.forall_mem_cons.mpr ⟨lw_p29, List.forall_mem_cons.mpr ⟨lw_p30, List.forall_mem_cons.mpr ⟨lw_p31, fun _ h => absurd h List.not_mem_nil⟩⟩⟩⟩⟩⟩⟩⟩⟩⟩⟩⟩⟩⟩⟩⟩
def lw_privs : List (MethodName × Nat) := lw_privs_1 ++ (lw_privs_2)
def lw_tbl : List Cond := k2_sels lw_privs ++ tables_1
theorem lw_privs_ok : ∀ q ∈ lw_privs, lw_okq q := by
  show ∀ q ∈ lw_privs_1 ++ (lw_privs_2), lw_okq q
  exact List.forall_mem_append.mpr ⟨lw_r1, lw_r2⟩
def lw_all : List Cond := lw_tbl.filter goodWord
/-- a word of the tables by its place: claim/WORDS.tsv -/
theorem lw_w {w : Cond} (i : Nat) (h : lw_tbl[i]? = some w) (g : goodWord w = true) : w ∈ lw_all := List.mem_filter.mpr ⟨List.mem_of_getElem? h, g⟩
theorem lw_all_tbl {w : Cond} (h : w ∈ lw_all) : w ∈ lw_tbl := (List.mem_filter.mp h).1
theorem lw_self : GoodIn lw_all lw_all := fun w h => ⟨h, good_of_word (List.mem_filter.mp h).2⟩
/-- a class's field words, by their places -/
theorem lw_in (ws : List Cond) (ps : List Nat) (hp : ws = ps.filterMap (fun i => lw_tbl[i]?)) (hg : ws.all goodWord = true) : ∀ w ∈ ws, w ∈ lw_all := by
  intro w h
  have h1 := List.all_eq_true.mp hg w h
  rw [hp] at h
  obtain ⟨i, -, hi⟩ := List.mem_filterMap.mp h
  exact lw_w i hi h1
/-- the words of a contract for the method y with code b, L locals, answer r -/
abbrev ws_ (y : MethodName) (b : ByteArray) (L : Nat) (r : Option FieldType) : List Cond := Cond.code y b L r :: lw_all
theorem lw_meth {y : MethodName} {b : ByteArray} {L : Nat} {r : Option FieldType} (h : Cond.code y b L r ∈ lw_all) : GoodIn lw_all (ws_ y b L r) := by
  intro w hw
  rcases List.mem_cons.mp hw with e | e
  · rw [e]
    exact lw_self _ h
  · exact lw_self _ e
theorem lw_app {a c : List Cond} (ha : ∀ w ∈ a, w ∈ lw_all) (hc : GoodIn lw_all c) : GoodIn lw_all (a ++ c) := by
  intro w hw
  rcases List.mem_append.mp hw with e | e
  · exact lw_self w (ha w e)
  · exact hc w e
/-- what a call through an object asks: cwV n hts (lw_V ..) -/
theorem lw_V {own : String} {idx : Nat} {C : String} {y : MethodName} {b : ByteArray} {L : Nat} {r : Option FieldType} (h1 : Cond.methodLink own idx y ∈ lw_all) (h2 : Cond.instanceMethod y ∈ lw_all) (h3 : Cond.selects C y y ∈ lw_all) (h4 : Cond.initialized C ∈ lw_all) (h5 : Cond.code y b L r ∈ lw_all) : GoodIn lw_all (wsV own idx C y (ws_ y b L r)) := by
  refine lw_app ?_ (lw_meth h5)
  intro w hw
  simp only [List.mem_cons, List.not_mem_nil, or_false] at hw
  rcases hw with e | e | e | e
  · rw [e]; exact h1
  · rw [e]; exact h2
  · rw [e]; exact h3
  · rw [e]; exact h4
/-- what a static call asks: va_cwS n hts (lw_S ..) -/
theorem lw_S {own : String} {idx : Nat} {y : MethodName} {b : ByteArray} {L : Nat} {r : Option FieldType} (h1 : Cond.methodLink own idx y ∈ lw_all) (h2 : Cond.static y ∈ lw_all) (h3 : Cond.initialized y.cls ∈ lw_all) (h4 : Cond.code y b L r ∈ lw_all) : GoodIn lw_all (va_wsS own idx y (ws_ y b L r)) := by
  refine lw_app ?_ (lw_meth h4)
  intro w hw
  simp only [List.mem_cons, List.not_mem_nil, or_false] at hw
  rcases hw with e | e | e
  · rw [e]; exact h1
  · rw [e]; exact h2
  · rw [e]; exact h3
/-- the words of a contract for a method WITH HANDLERS (hh: its table) -/
abbrev wsW_ (y : MethodName) (b : ByteArray) (L : Nat) (r : Option FieldType) (hh : List (Nat × Nat × Nat × Nat)) : List Cond := Cond.codeWith y b L r hh :: lw_all
theorem lw_methW {y : MethodName} {b : ByteArray} {L : Nat} {r : Option FieldType} {hh : List (Nat × Nat × Nat × Nat)} (h : Cond.codeWith y b L r hh ∈ lw_all) : GoodIn lw_all (wsW_ y b L r hh) := by
  intro w hw
  rcases List.mem_cons.mp hw with e | e
  · rw [e]
    exact lw_self _ h
  · exact lw_self _ e
/-- any list of words by their places (lw_in), good -/
theorem lw_good {ws : List Cond} (h : ∀ w ∈ ws, w ∈ lw_all) : GoodIn lw_all ws := fun w hw => lw_self w (h w hw)
/-- what a call of a method with handlers asks: vx_cwVW n hts (lw_VW ..), vx_cwSW n hts (lw_SW ..) -/
theorem lw_VW {own : String} {idx : Nat} {C : String} {y : MethodName} {b : ByteArray} {L : Nat} {r : Option FieldType} {hh : List (Nat × Nat × Nat × Nat)} (h1 : Cond.methodLink own idx y ∈ lw_all) (h2 : Cond.instanceMethod y ∈ lw_all) (h3 : Cond.selects C y y ∈ lw_all) (h4 : Cond.initialized C ∈ lw_all) (h5 : Cond.codeWith y b L r hh ∈ lw_all) : GoodIn lw_all (wsV own idx C y (wsW_ y b L r hh)) := by
  refine lw_app ?_ (lw_methW h5)
  intro w hw
  simp only [List.mem_cons, List.not_mem_nil, or_false] at hw
  rcases hw with e | e | e | e
  · rw [e]; exact h1
  · rw [e]; exact h2
  · rw [e]; exact h3
  · rw [e]; exact h4
theorem lw_SW {own : String} {idx : Nat} {y : MethodName} {b : ByteArray} {L : Nat} {r : Option FieldType} {hh : List (Nat × Nat × Nat × Nat)} (h1 : Cond.methodLink own idx y ∈ lw_all) (h2 : Cond.static y ∈ lw_all) (h3 : Cond.initialized y.cls ∈ lw_all) (h4 : Cond.codeWith y b L r hh ∈ lw_all) : GoodIn lw_all (va_wsS own idx y (wsW_ y b L r hh)) := by
  refine lw_app ?_ (lw_methW h4)
  intro w hw
  simp only [List.mem_cons, List.not_mem_nil, or_false] at hw
  rcases hw with e | e | e
  · rw [e]; exact h1
  · rw [e]; exact h2
  · rw [e]; exact h3
/-- a word by its place in its run of the tables -/
theorem lw_at {r : List Cond} (hr : ∀ w ∈ r, w ∈ lw_tbl) {w : Cond} (i : Nat) (h : r[i]? = some w) : w ∈ lw_tbl := hr w (List.mem_of_getElem? h)
theorem lw_g {w : Cond} (h : w ∈ lw_tbl) (g : goodWord w = true) : w ∈ lw_all := List.mem_filter.mpr ⟨h, g⟩
theorem lw_ms : ∀ w ∈ k2_sels lw_privs, w ∈ lw_tbl := fun w h => show w ∈ k2_sels lw_privs ++ tables_1 from List.mem_append_left _ h
theorem lw_m1 : ∀ w ∈ tables_1_1, w ∈ lw_tbl := fun w h => show w ∈ k2_sels lw_privs ++ tables_1 from List.mem_append_right (k2_sels lw_privs) (show w ∈ tables_1 from List.mem_append_left _ h)
theorem lw_m2 : ∀ w ∈ tables_1_2, w ∈ lw_tbl := fun w h => show w ∈ k2_sels lw_privs ++ tables_1 from List.mem_append_right (k2_sels lw_privs) (show w ∈ tables_1 from List.mem_append_right _ h)
theorem qs0 : (Cond.selects "ExampleLearner" ⟨"ExampleLearner", "typed", "()V"⟩ ⟨"ExampleLearner", "typed", "()V"⟩) ∈ lw_all := lw_g (lw_at lw_ms 0 rfl) rfl
theorem qs1 : (Cond.selects "ExampleLearner" ⟨"ExampleLearner", "relearned", "()V"⟩ ⟨"ExampleLearner", "relearned", "()V"⟩) ∈ lw_all := lw_g (lw_at lw_ms 1 rfl) rfl
theorem qs2 : (Cond.selects "ExampleLearner" ⟨"ExampleLearner", "leastCount", "()I"⟩ ⟨"ExampleLearner", "leastCount", "()I"⟩) ∈ lw_all := lw_g (lw_at lw_ms 2 rfl) rfl
theorem qs3 : (Cond.selects "ExampleLearner" ⟨"ExampleLearner", "count", "(I)V"⟩ ⟨"ExampleLearner", "count", "(I)V"⟩) ∈ lw_all := lw_g (lw_at lw_ms 3 rfl) rfl
theorem qs4 : (Cond.selects "ExampleLearner" ⟨"ExampleLearner", "followAll", "(I)V"⟩ ⟨"ExampleLearner", "followAll", "(I)V"⟩) ∈ lw_all := lw_g (lw_at lw_ms 4 rfl) rfl
theorem qs5 : (Cond.selects "ExampleLearner" ⟨"ExampleLearner", "followAtom", "(II)V"⟩ ⟨"ExampleLearner", "followAtom", "(II)V"⟩) ∈ lw_all := lw_g (lw_at lw_ms 5 rfl) rfl
theorem qs6 : (Cond.selects "ExampleLearner" ⟨"ExampleLearner", "sizeOf", "(II)I"⟩ ⟨"ExampleLearner", "sizeOf", "(II)I"⟩) ∈ lw_all := lw_g (lw_at lw_ms 6 rfl) rfl
theorem qs7 : (Cond.selects "ExampleLearner" ⟨"ExampleLearner", "placeOf", "(II)I"⟩ ⟨"ExampleLearner", "placeOf", "(II)I"⟩) ∈ lw_all := lw_g (lw_at lw_ms 7 rfl) rfl
theorem qs8 : (Cond.selects "ExampleLearner" ⟨"ExampleLearner", "gives", "(IIII)Z"⟩ ⟨"ExampleLearner", "gives", "(IIII)Z"⟩) ∈ lw_all := lw_g (lw_at lw_ms 8 rfl) rfl
theorem qs9 : (Cond.selects "ExampleLearner" ⟨"ExampleLearner", "letterOf", "(III)I"⟩ ⟨"ExampleLearner", "letterOf", "(III)I"⟩) ∈ lw_all := lw_g (lw_at lw_ms 9 rfl) rfl
theorem qs10 : (Cond.selects "ExampleLearner" ⟨"ExampleLearner", "lastNode", "(I)I"⟩ ⟨"ExampleLearner", "lastNode", "(I)I"⟩) ∈ lw_all := lw_g (lw_at lw_ms 10 rfl) rfl
theorem qs11 : (Cond.selects "ExampleLearner" ⟨"ExampleLearner", "exists", "(II)Z"⟩ ⟨"ExampleLearner", "exists", "(II)Z"⟩) ∈ lw_all := lw_g (lw_at lw_ms 11 rfl) rfl
theorem qs12 : (Cond.selects "ExampleLearner" ⟨"ExampleLearner", "countFrom", "(III)I"⟩ ⟨"ExampleLearner", "countFrom", "(III)I"⟩) ∈ lw_all := lw_g (lw_at lw_ms 12 rfl) rfl
theorem qs13 : (Cond.selects "ExampleLearner" ⟨"ExampleLearner", "step", "(III)I"⟩ ⟨"ExampleLearner", "step", "(III)I"⟩) ∈ lw_all := lw_g (lw_at lw_ms 13 rfl) rfl
theorem qs14 : (Cond.selects "ExampleLearner" ⟨"ExampleLearner", "stepIn", "(IIII)I"⟩ ⟨"ExampleLearner", "stepIn", "(IIII)I"⟩) ∈ lw_all := lw_g (lw_at lw_ms 14 rfl) rfl
theorem qs15 : (Cond.selects "ExampleLearner" ⟨"ExampleLearner", "findFirst", "()V"⟩ ⟨"ExampleLearner", "findFirst", "()V"⟩) ∈ lw_all := lw_g (lw_at lw_ms 15 rfl) rfl
theorem qs16 : (Cond.selects "ExampleLearner" ⟨"ExampleLearner", "goesOn", "(III)Z"⟩ ⟨"ExampleLearner", "goesOn", "(III)Z"⟩) ∈ lw_all := lw_g (lw_at lw_ms 16 rfl) rfl
theorem qs17 : (Cond.selects "ExampleLearner" ⟨"ExampleLearner", "waysForQuery", "()I"⟩ ⟨"ExampleLearner", "waysForQuery", "()I"⟩) ∈ lw_all := lw_g (lw_at lw_ms 17 rfl) rfl
theorem qs18 : (Cond.selects "ExampleLearner" ⟨"ExampleLearner", "run", "()Z"⟩ ⟨"ExampleLearner", "run", "()Z"⟩) ∈ lw_all := lw_g (lw_at lw_ms 18 rfl) rfl
theorem qs19 : (Cond.selects "ExampleLearnerModel" ⟨"ExampleLearnerModel", "badLetter", "(I)Z"⟩ ⟨"ExampleLearnerModel", "badLetter", "(I)Z"⟩) ∈ lw_all := lw_g (lw_at lw_ms 19 rfl) rfl
theorem qs20 : (Cond.selects "ExampleLearnerModel" ⟨"ExampleLearnerModel", "search", "(IZ)I"⟩ ⟨"ExampleLearnerModel", "search", "(IZ)I"⟩) ∈ lw_all := lw_g (lw_at lw_ms 20 rfl) rfl
theorem qs21 : (Cond.selects "ExampleLearnerModel" ⟨"ExampleLearnerModel", "note", "(III)V"⟩ ⟨"ExampleLearnerModel", "note", "(III)V"⟩) ∈ lw_all := lw_g (lw_at lw_ms 21 rfl) rfl
theorem qs22 : (Cond.selects "ExampleLearnerModel" ⟨"ExampleLearnerModel", "put", "(IIZ)Z"⟩ ⟨"ExampleLearnerModel", "put", "(IIZ)Z"⟩) ∈ lw_all := lw_g (lw_at lw_ms 22 rfl) rfl
theorem qs23 : (Cond.selects "ExampleLearnerModel" ⟨"ExampleLearnerModel", "counts", "(IZ)Z"⟩ ⟨"ExampleLearnerModel", "counts", "(IZ)Z"⟩) ∈ lw_all := lw_g (lw_at lw_ms 23 rfl) rfl
theorem qs24 : (Cond.selects "ExampleLearnerModel" ⟨"ExampleLearnerModel", "after", "(III)I"⟩ ⟨"ExampleLearnerModel", "after", "(III)I"⟩) ∈ lw_all := lw_g (lw_at lw_ms 24 rfl) rfl
theorem qs25 : (Cond.selects "ExampleLearnerModel" ⟨"ExampleLearnerModel", "size", "(II)I"⟩ ⟨"ExampleLearnerModel", "size", "(II)I"⟩) ∈ lw_all := lw_g (lw_at lw_ms 25 rfl) rfl
theorem qs26 : (Cond.selects "ExampleLearnerModel" ⟨"ExampleLearnerModel", "place", "(II)I"⟩ ⟨"ExampleLearnerModel", "place", "(II)I"⟩) ∈ lw_all := lw_g (lw_at lw_ms 26 rfl) rfl
theorem qs27 : (Cond.selects "ExampleLearnerModel" ⟨"ExampleLearnerModel", "letter", "(III)I"⟩ ⟨"ExampleLearnerModel", "letter", "(III)I"⟩) ∈ lw_all := lw_g (lw_at lw_ms 27 rfl) rfl
theorem qs28 : (Cond.selects "ExampleLearnerModel" ⟨"ExampleLearnerModel", "seconds", "(IIZ)I"⟩ ⟨"ExampleLearnerModel", "seconds", "(IIZ)I"⟩) ∈ lw_all := lw_g (lw_at lw_ms 28 rfl) rfl
theorem qs29 : (Cond.selects "ExampleLearnerModel" ⟨"ExampleLearnerModel", "thirds", "(IIZ)I"⟩ ⟨"ExampleLearnerModel", "thirds", "(IIZ)I"⟩) ∈ lw_all := lw_g (lw_at lw_ms 29 rfl) rfl
theorem qs30 : (Cond.selects "ExampleLearnerModel" ⟨"ExampleLearnerModel", "whole", "(IZ)Z"⟩ ⟨"ExampleLearnerModel", "whole", "(IZ)Z"⟩) ∈ lw_all := lw_g (lw_at lw_ms 30 rfl) rfl
theorem qs31 : (Cond.selects "ExampleLearnerModel" ⟨"ExampleLearnerModel", "make", "()I"⟩ ⟨"ExampleLearnerModel", "make", "()I"⟩) ∈ lw_all := lw_g (lw_at lw_ms 31 rfl) rfl
end
section
set_option maxRecDepth 100000
def RX0 : String := "ExampleLearner"
def TX0 : u_T := fun k => match k with
  | 0 => ("ExampleLearner", "examples", "I", false)
  | 1 => ("ExampleLearner", "inLength", "[I", true)
  | 2 => ("ExampleLearner", "outLength", "[I", true)
  | 3 => ("ExampleLearner", "inLetter", "[I", true)
  | 4 => ("ExampleLearner", "outLetter", "[I", true)
  | 5 => ("ExampleLearner", "leads", "[B", true)
  | 6 => ("ExampleLearner", "learnedReady", "Z", false)
  | 7 => ("ExampleLearner", "queryReady", "Z", false)
  | 8 => ("ExampleLearner", "ways", "[I", true)
  | 9 => ("ExampleLearner", "waysFor", "I", false)
  | 10 => ("ExampleLearner", "atoms", "I", false)
  | 11 => ("ExampleLearner", "program", "[I", true)
  | 12 => ("ExampleLearner", "resultSize", "I", false)
  | _ => ("ExampleLearner", "given", "[I", true)
def tyX0 : Nat → FieldType := fun k => match k with
  | 0 => .int
  | 1 => .array .int
  | 2 => .array .int
  | 3 => .array .int
  | 4 => .array .int
  | 5 => .array .byte
  | 6 => .boolean
  | 7 => .boolean
  | 8 => .array .int
  | 9 => .int
  | 10 => .int
  | 11 => .array .int
  | 12 => .int
  | _ => .array .int
abbrev wsX00 : List Cond := u_ws RX0 TX0 14
theorem nmX0 : ∀ a, a < 14 → ∀ b, b < 14 → a ≠ b → (TX0 a).2.1 ≠ (TX0 b).2.1 := by decide +kernel
theorem tyX0_ok : ∀ k, k < 14 → parseFieldDescriptor (TX0 k).2.2.1 = some (tyX0 k) := by decide +kernel
abbrev cX0_init : ByteArray := prog_1_method_1_code
def yX0_init : MethodName := ⟨RX0, "<init>", "()V"⟩
abbrev cX0_typeIn : ByteArray := prog_1_method_4_code
def yX0_typeIn : MethodName := ⟨RX0, "typeIn", "(I)I"⟩
abbrev cX0_typed : ByteArray := prog_1_method_2_code
def yX0_typed : MethodName := ⟨RX0, "typed", "()V"⟩
abbrev cX0_typeOut : ByteArray := prog_1_method_5_code
def yX0_typeOut : MethodName := ⟨RX0, "typeOut", "(I)I"⟩
abbrev cX0_erase : ByteArray := prog_1_method_6_code
def yX0_erase : MethodName := ⟨RX0, "erase", "()V"⟩
abbrev cX0_learn : ByteArray := prog_1_method_7_code
def yX0_learn : MethodName := ⟨RX0, "learn", "()I"⟩
abbrev cX0_relearned : ByteArray := prog_1_method_3_code
def yX0_relearned : MethodName := ⟨RX0, "relearned", "()V"⟩
abbrev cX0_forget : ByteArray := prog_1_method_8_code
def yX0_forget : MethodName := ⟨RX0, "forget", "()I"⟩
abbrev cX0_least : ByteArray := prog_1_method_27_code
def yX0_least : MethodName := ⟨RX0, "least", "()I"⟩
abbrev cX0_leastCount : ByteArray := prog_1_method_23_code
def yX0_leastCount : MethodName := ⟨RX0, "leastCount", "()I"⟩
abbrev cX0_count : ByteArray := prog_1_method_22_code
def yX0_count : MethodName := ⟨RX0, "count", "(I)V"⟩
abbrev cX0_followAll : ByteArray := prog_1_method_16_code
def yX0_followAll : MethodName := ⟨RX0, "followAll", "(I)V"⟩
abbrev cX0_followAtom : ByteArray := prog_1_method_15_code
def yX0_followAtom : MethodName := ⟨RX0, "followAtom", "(II)V"⟩
abbrev cX0_sizeOf : ByteArray := prog_1_method_12_code
def yX0_sizeOf : MethodName := ⟨RX0, "sizeOf", "(II)I"⟩
abbrev cX0_firstPosition : ByteArray := prog_1_method_10_code
def yX0_firstPosition : MethodName := ⟨RX0, "firstPosition", "(I)I"⟩
abbrev cX0_placeOf : ByteArray := prog_1_method_9_code
def yX0_placeOf : MethodName := ⟨RX0, "placeOf", "(II)I"⟩
abbrev cX0_secondPosition : ByteArray := prog_1_method_11_code
def yX0_secondPosition : MethodName := ⟨RX0, "secondPosition", "(I)I"⟩
abbrev cX0_gives : ByteArray := prog_1_method_14_code
def yX0_gives : MethodName := ⟨RX0, "gives", "(IIII)Z"⟩
abbrev cX0_letterOf : ByteArray := prog_1_method_13_code
def yX0_letterOf : MethodName := ⟨RX0, "letterOf", "(III)I"⟩
abbrev cX0_lastNode : ByteArray := prog_1_method_19_code
def yX0_lastNode : MethodName := ⟨RX0, "lastNode", "(I)I"⟩
abbrev cX0_exists : ByteArray := prog_1_method_20_code
def yX0_exists : MethodName := ⟨RX0, "exists", "(II)Z"⟩
abbrev cX0_countFrom : ByteArray := prog_1_method_21_code
def yX0_countFrom : MethodName := ⟨RX0, "countFrom", "(III)I"⟩
abbrev cX0_step : ByteArray := prog_1_method_18_code
def yX0_step : MethodName := ⟨RX0, "step", "(III)I"⟩
abbrev cX0_stepIn : ByteArray := prog_1_method_17_code
def yX0_stepIn : MethodName := ⟨RX0, "stepIn", "(IIII)I"⟩
abbrev cX0_programs : ByteArray := prog_1_method_28_code
def yX0_programs : MethodName := ⟨RX0, "programs", "(I)I"⟩
abbrev cX0_atom : ByteArray := prog_1_method_29_code
def yX0_atom : MethodName := ⟨RX0, "atom", "(I)I"⟩
abbrev cX0_findFirst : ByteArray := prog_1_method_24_code
def yX0_findFirst : MethodName := ⟨RX0, "findFirst", "()V"⟩
abbrev cX0_goesOn : ByteArray := prog_1_method_25_code
def yX0_goesOn : MethodName := ⟨RX0, "goesOn", "(III)Z"⟩
abbrev cX0_can : ByteArray := prog_1_method_31_code
def yX0_can : MethodName := ⟨RX0, "can", "()Z"⟩
abbrev cX0_waysForQuery : ByteArray := prog_1_method_30_code
def yX0_waysForQuery : MethodName := ⟨RX0, "waysForQuery", "()I"⟩
abbrev cX0_ways : ByteArray := prog_1_method_32_code
def yX0_ways : MethodName := ⟨RX0, "ways", "()I"⟩
abbrev cX0_resultLength : ByteArray := prog_1_method_33_code
def yX0_resultLength : MethodName := ⟨RX0, "resultLength", "()I"⟩
abbrev cX0_run : ByteArray := prog_1_method_26_code
def yX0_run : MethodName := ⟨RX0, "run", "()Z"⟩
abbrev cX0_result : ByteArray := prog_1_method_34_code
def yX0_result : MethodName := ⟨RX0, "result", "(I)I"⟩
abbrev cX0_right : ByteArray := prog_1_method_35_code
def yX0_right : MethodName := ⟨RX0, "right", "(I)Z"⟩
theorem q33 : (Jvm.Cond.initialized "ExampleLearner") ∈ lw_all := lw_g (lw_at lw_m1 1 rfl) rfl
theorem q36 : (Jvm.Cond.instantiable "ExampleLearner" (14 : Nat)) ∈ lw_all := lw_g (lw_at lw_m1 4 rfl) rfl
theorem q38 : (Jvm.Cond.instanceMethod ({ cls := "ExampleLearner", name := "<init>", desc := "()V" } : Jvm.MethodName)) ∈ lw_all := lw_g (lw_at lw_m1 6 rfl) rfl
theorem q39 : (Jvm.Cond.code ({ cls := "ExampleLearner", name := "<init>", desc := "()V" } : Jvm.MethodName) prog_1_method_1_code (1 : Nat) (Option.none : Option Jvm.ClassFile.FieldType)) ∈ lw_all := lw_g (lw_at lw_m1 7 rfl) rfl
theorem q40 : (Jvm.Cond.methodLink "ExampleLearner" (1 : Nat) ({ cls := "java/lang/Object", name := "<init>", desc := "()V" } : Jvm.MethodName)) ∈ lw_all := lw_g (lw_at lw_m1 8 rfl) rfl
theorem q43 : (Jvm.Cond.fieldLink "ExampleLearner" (49 : Nat) "ExampleLearner" "examples" "I") ∈ lw_all := lw_g (lw_at lw_m1 11 rfl) rfl
theorem q44 : (Jvm.Cond.fieldLink "ExampleLearner" (7 : Nat) "ExampleLearner" "inLength" "[I") ∈ lw_all := lw_g (lw_at lw_m1 12 rfl) rfl
theorem q45 : (Jvm.Cond.fieldLink "ExampleLearner" (13 : Nat) "ExampleLearner" "outLength" "[I") ∈ lw_all := lw_g (lw_at lw_m1 13 rfl) rfl
theorem q46 : (Jvm.Cond.fieldLink "ExampleLearner" (16 : Nat) "ExampleLearner" "inLetter" "[I") ∈ lw_all := lw_g (lw_at lw_m1 14 rfl) rfl
theorem q47 : (Jvm.Cond.fieldLink "ExampleLearner" (19 : Nat) "ExampleLearner" "outLetter" "[I") ∈ lw_all := lw_g (lw_at lw_m1 15 rfl) rfl
theorem q48 : (Jvm.Cond.fieldLink "ExampleLearner" (22 : Nat) "ExampleLearner" "leads" "[B") ∈ lw_all := lw_g (lw_at lw_m1 16 rfl) rfl
theorem q49 : (Jvm.Cond.fieldLink "ExampleLearner" (43 : Nat) "ExampleLearner" "learnedReady" "Z") ∈ lw_all := lw_g (lw_at lw_m1 17 rfl) rfl
theorem q50 : (Jvm.Cond.fieldLink "ExampleLearner" (39 : Nat) "ExampleLearner" "queryReady" "Z") ∈ lw_all := lw_g (lw_at lw_m1 18 rfl) rfl
theorem q51 : (Jvm.Cond.fieldLink "ExampleLearner" (26 : Nat) "ExampleLearner" "ways" "[I") ∈ lw_all := lw_g (lw_at lw_m1 19 rfl) rfl
theorem q52 : (Jvm.Cond.fieldLink "ExampleLearner" (35 : Nat) "ExampleLearner" "waysFor" "I") ∈ lw_all := lw_g (lw_at lw_m1 20 rfl) rfl
theorem q53 : (Jvm.Cond.fieldLink "ExampleLearner" (109 : Nat) "ExampleLearner" "atoms" "I") ∈ lw_all := lw_g (lw_at lw_m1 21 rfl) rfl
theorem q54 : (Jvm.Cond.fieldLink "ExampleLearner" (29 : Nat) "ExampleLearner" "program" "[I") ∈ lw_all := lw_g (lw_at lw_m1 22 rfl) rfl
theorem q55 : (Jvm.Cond.fieldLink "ExampleLearner" (119 : Nat) "ExampleLearner" "resultSize" "I") ∈ lw_all := lw_g (lw_at lw_m1 23 rfl) rfl
theorem q56 : (Jvm.Cond.fieldLink "ExampleLearner" (32 : Nat) "ExampleLearner" "given" "[I") ∈ lw_all := lw_g (lw_at lw_m1 24 rfl) rfl
theorem q57 : (Jvm.Cond.lays "ExampleLearner" "ExampleLearner" "examples" "I") ∈ lw_all := lw_g (lw_at lw_m1 25 rfl) rfl
theorem q58 : (Jvm.Cond.soleField "ExampleLearner" "examples") ∈ lw_all := lw_g (lw_at lw_m1 26 rfl) rfl
theorem q59 : (Jvm.Cond.laysFinal "ExampleLearner" "ExampleLearner" "inLength" "[I") ∈ lw_all := lw_g (lw_at lw_m1 27 rfl) rfl
theorem q60 : (Jvm.Cond.soleField "ExampleLearner" "inLength") ∈ lw_all := lw_g (lw_at lw_m1 28 rfl) rfl
theorem q61 : (Jvm.Cond.laysFinal "ExampleLearner" "ExampleLearner" "outLength" "[I") ∈ lw_all := lw_g (lw_at lw_m1 29 rfl) rfl
theorem q62 : (Jvm.Cond.soleField "ExampleLearner" "outLength") ∈ lw_all := lw_g (lw_at lw_m1 30 rfl) rfl
theorem q63 : (Jvm.Cond.laysFinal "ExampleLearner" "ExampleLearner" "inLetter" "[I") ∈ lw_all := lw_g (lw_at lw_m1 31 rfl) rfl
theorem q64 : (Jvm.Cond.soleField "ExampleLearner" "inLetter") ∈ lw_all := lw_g (lw_at lw_m1 32 rfl) rfl
theorem q65 : (Jvm.Cond.laysFinal "ExampleLearner" "ExampleLearner" "outLetter" "[I") ∈ lw_all := lw_g (lw_at lw_m1 33 rfl) rfl
theorem q66 : (Jvm.Cond.soleField "ExampleLearner" "outLetter") ∈ lw_all := lw_g (lw_at lw_m1 34 rfl) rfl
theorem q67 : (Jvm.Cond.laysFinal "ExampleLearner" "ExampleLearner" "leads" "[B") ∈ lw_all := lw_g (lw_at lw_m1 35 rfl) rfl
theorem q68 : (Jvm.Cond.soleField "ExampleLearner" "leads") ∈ lw_all := lw_g (lw_at lw_m1 36 rfl) rfl
theorem q69 : (Jvm.Cond.lays "ExampleLearner" "ExampleLearner" "learnedReady" "Z") ∈ lw_all := lw_g (lw_at lw_m1 37 rfl) rfl
theorem q70 : (Jvm.Cond.soleField "ExampleLearner" "learnedReady") ∈ lw_all := lw_g (lw_at lw_m1 38 rfl) rfl
theorem q71 : (Jvm.Cond.lays "ExampleLearner" "ExampleLearner" "queryReady" "Z") ∈ lw_all := lw_g (lw_at lw_m1 39 rfl) rfl
theorem q72 : (Jvm.Cond.soleField "ExampleLearner" "queryReady") ∈ lw_all := lw_g (lw_at lw_m1 40 rfl) rfl
theorem q73 : (Jvm.Cond.laysFinal "ExampleLearner" "ExampleLearner" "ways" "[I") ∈ lw_all := lw_g (lw_at lw_m1 41 rfl) rfl
theorem q74 : (Jvm.Cond.soleField "ExampleLearner" "ways") ∈ lw_all := lw_g (lw_at lw_m1 42 rfl) rfl
theorem q75 : (Jvm.Cond.lays "ExampleLearner" "ExampleLearner" "waysFor" "I") ∈ lw_all := lw_g (lw_at lw_m1 43 rfl) rfl
theorem q76 : (Jvm.Cond.soleField "ExampleLearner" "waysFor") ∈ lw_all := lw_g (lw_at lw_m1 44 rfl) rfl
theorem q77 : (Jvm.Cond.lays "ExampleLearner" "ExampleLearner" "atoms" "I") ∈ lw_all := lw_g (lw_at lw_m1 45 rfl) rfl
theorem q78 : (Jvm.Cond.soleField "ExampleLearner" "atoms") ∈ lw_all := lw_g (lw_at lw_m1 46 rfl) rfl
theorem q79 : (Jvm.Cond.laysFinal "ExampleLearner" "ExampleLearner" "program" "[I") ∈ lw_all := lw_g (lw_at lw_m1 47 rfl) rfl
theorem q80 : (Jvm.Cond.soleField "ExampleLearner" "program") ∈ lw_all := lw_g (lw_at lw_m1 48 rfl) rfl
theorem q81 : (Jvm.Cond.lays "ExampleLearner" "ExampleLearner" "resultSize" "I") ∈ lw_all := lw_g (lw_at lw_m1 49 rfl) rfl
theorem q82 : (Jvm.Cond.soleField "ExampleLearner" "resultSize") ∈ lw_all := lw_g (lw_at lw_m1 50 rfl) rfl
theorem q83 : (Jvm.Cond.laysFinal "ExampleLearner" "ExampleLearner" "given" "[I") ∈ lw_all := lw_g (lw_at lw_m1 51 rfl) rfl
theorem q84 : (Jvm.Cond.soleField "ExampleLearner" "given") ∈ lw_all := lw_g (lw_at lw_m1 52 rfl) rfl
theorem q85 : (Jvm.Cond.superclass "ExampleLearner" "java/lang/Object") ∈ lw_all := lw_g (lw_at lw_m1 53 rfl) rfl
theorem q89 : (Jvm.Cond.instanceMethod ({ cls := "ExampleLearner", name := "typeIn", desc := "(I)I" } : Jvm.MethodName)) ∈ lw_all := lw_g (lw_at lw_m1 57 rfl) rfl
theorem q90 : (Jvm.Cond.selects "ExampleLearner" ({ cls := "ExampleLearner", name := "typeIn", desc := "(I)I" } : Jvm.MethodName) ({ cls := "ExampleLearner", name := "typeIn", desc := "(I)I" } : Jvm.MethodName)) ∈ lw_all := lw_g (lw_at lw_m1 58 rfl) rfl
theorem q91 : (Jvm.Cond.code ({ cls := "ExampleLearner", name := "typeIn", desc := "(I)I" } : Jvm.MethodName) prog_1_method_4_code (2 : Nat) (Option.some Jvm.ClassFile.FieldType.int)) ∈ lw_all := lw_g (lw_at lw_m1 59 rfl) rfl
theorem q92 : (Jvm.Cond.methodLink "ExampleLearner" (46 : Nat) ({ cls := "ExampleLearner", name := "typed", desc := "()V" } : Jvm.MethodName)) ∈ lw_all := lw_g (lw_at lw_m1 60 rfl) rfl
theorem q93 : (Jvm.Cond.privateMethod ({ cls := "ExampleLearner", name := "typed", desc := "()V" } : Jvm.MethodName)) ∈ lw_tbl := lw_at lw_m1 61 rfl
theorem q94 : (Jvm.Cond.instanceMethod ({ cls := "ExampleLearner", name := "typed", desc := "()V" } : Jvm.MethodName)) ∈ lw_all := lw_g (lw_at lw_m1 62 rfl) rfl
theorem q95 : (Jvm.Cond.code ({ cls := "ExampleLearner", name := "typed", desc := "()V" } : Jvm.MethodName) prog_1_method_2_code (1 : Nat) (Option.none : Option Jvm.ClassFile.FieldType)) ∈ lw_all := lw_g (lw_at lw_m1 63 rfl) rfl
theorem q97 : (Jvm.Cond.instanceMethod ({ cls := "ExampleLearner", name := "typeOut", desc := "(I)I" } : Jvm.MethodName)) ∈ lw_all := lw_g (lw_at lw_m1 65 rfl) rfl
theorem q98 : (Jvm.Cond.selects "ExampleLearner" ({ cls := "ExampleLearner", name := "typeOut", desc := "(I)I" } : Jvm.MethodName) ({ cls := "ExampleLearner", name := "typeOut", desc := "(I)I" } : Jvm.MethodName)) ∈ lw_all := lw_g (lw_at lw_m1 66 rfl) rfl
theorem q99 : (Jvm.Cond.code ({ cls := "ExampleLearner", name := "typeOut", desc := "(I)I" } : Jvm.MethodName) prog_1_method_5_code (2 : Nat) (Option.some Jvm.ClassFile.FieldType.int)) ∈ lw_all := lw_g (lw_at lw_m1 67 rfl) rfl
theorem q101 : (Jvm.Cond.instanceMethod ({ cls := "ExampleLearner", name := "erase", desc := "()V" } : Jvm.MethodName)) ∈ lw_all := lw_g (lw_at lw_m1 69 rfl) rfl
theorem q102 : (Jvm.Cond.selects "ExampleLearner" ({ cls := "ExampleLearner", name := "erase", desc := "()V" } : Jvm.MethodName) ({ cls := "ExampleLearner", name := "erase", desc := "()V" } : Jvm.MethodName)) ∈ lw_all := lw_g (lw_at lw_m1 70 rfl) rfl
theorem q103 : (Jvm.Cond.code ({ cls := "ExampleLearner", name := "erase", desc := "()V" } : Jvm.MethodName) prog_1_method_6_code (1 : Nat) (Option.none : Option Jvm.ClassFile.FieldType)) ∈ lw_all := lw_g (lw_at lw_m1 71 rfl) rfl
theorem q105 : (Jvm.Cond.instanceMethod ({ cls := "ExampleLearner", name := "learn", desc := "()I" } : Jvm.MethodName)) ∈ lw_all := lw_g (lw_at lw_m1 73 rfl) rfl
theorem q106 : (Jvm.Cond.selects "ExampleLearner" ({ cls := "ExampleLearner", name := "learn", desc := "()I" } : Jvm.MethodName) ({ cls := "ExampleLearner", name := "learn", desc := "()I" } : Jvm.MethodName)) ∈ lw_all := lw_g (lw_at lw_m1 74 rfl) rfl
theorem q107 : (Jvm.Cond.code ({ cls := "ExampleLearner", name := "learn", desc := "()I" } : Jvm.MethodName) prog_1_method_7_code (3 : Nat) (Option.some Jvm.ClassFile.FieldType.int)) ∈ lw_all := lw_g (lw_at lw_m1 75 rfl) rfl
theorem q108 : (Jvm.Cond.methodLink "ExampleLearner" (52 : Nat) ({ cls := "ExampleLearner", name := "relearned", desc := "()V" } : Jvm.MethodName)) ∈ lw_all := lw_g (lw_at lw_m1 76 rfl) rfl
theorem q109 : (Jvm.Cond.privateMethod ({ cls := "ExampleLearner", name := "relearned", desc := "()V" } : Jvm.MethodName)) ∈ lw_tbl := lw_at lw_m1 77 rfl
theorem q110 : (Jvm.Cond.instanceMethod ({ cls := "ExampleLearner", name := "relearned", desc := "()V" } : Jvm.MethodName)) ∈ lw_all := lw_g (lw_at lw_m1 78 rfl) rfl
theorem q111 : (Jvm.Cond.code ({ cls := "ExampleLearner", name := "relearned", desc := "()V" } : Jvm.MethodName) prog_1_method_3_code (1 : Nat) (Option.none : Option Jvm.ClassFile.FieldType)) ∈ lw_all := lw_g (lw_at lw_m1 79 rfl) rfl
theorem q113 : (Jvm.Cond.instanceMethod ({ cls := "ExampleLearner", name := "forget", desc := "()I" } : Jvm.MethodName)) ∈ lw_all := lw_g (lw_at lw_m1 81 rfl) rfl
theorem q114 : (Jvm.Cond.selects "ExampleLearner" ({ cls := "ExampleLearner", name := "forget", desc := "()I" } : Jvm.MethodName) ({ cls := "ExampleLearner", name := "forget", desc := "()I" } : Jvm.MethodName)) ∈ lw_all := lw_g (lw_at lw_m1 82 rfl) rfl
theorem q115 : (Jvm.Cond.code ({ cls := "ExampleLearner", name := "forget", desc := "()I" } : Jvm.MethodName) prog_1_method_8_code (1 : Nat) (Option.some Jvm.ClassFile.FieldType.int)) ∈ lw_all := lw_g (lw_at lw_m1 83 rfl) rfl
theorem q117 : (Jvm.Cond.instanceMethod ({ cls := "ExampleLearner", name := "least", desc := "()I" } : Jvm.MethodName)) ∈ lw_all := lw_g (lw_at lw_m1 85 rfl) rfl
theorem q118 : (Jvm.Cond.selects "ExampleLearner" ({ cls := "ExampleLearner", name := "least", desc := "()I" } : Jvm.MethodName) ({ cls := "ExampleLearner", name := "least", desc := "()I" } : Jvm.MethodName)) ∈ lw_all := lw_g (lw_at lw_m1 86 rfl) rfl
theorem q119 : (Jvm.Cond.code ({ cls := "ExampleLearner", name := "least", desc := "()I" } : Jvm.MethodName) prog_1_method_27_code (2 : Nat) (Option.some Jvm.ClassFile.FieldType.int)) ∈ lw_all := lw_g (lw_at lw_m1 87 rfl) rfl
theorem q120 : (Jvm.Cond.methodLink "ExampleLearner" (105 : Nat) ({ cls := "ExampleLearner", name := "leastCount", desc := "()I" } : Jvm.MethodName)) ∈ lw_all := lw_g (lw_at lw_m1 88 rfl) rfl
theorem q121 : (Jvm.Cond.privateMethod ({ cls := "ExampleLearner", name := "leastCount", desc := "()I" } : Jvm.MethodName)) ∈ lw_tbl := lw_at lw_m1 89 rfl
theorem q122 : (Jvm.Cond.instanceMethod ({ cls := "ExampleLearner", name := "leastCount", desc := "()I" } : Jvm.MethodName)) ∈ lw_all := lw_g (lw_at lw_m1 90 rfl) rfl
theorem q123 : (Jvm.Cond.code ({ cls := "ExampleLearner", name := "leastCount", desc := "()I" } : Jvm.MethodName) prog_1_method_23_code (2 : Nat) (Option.some Jvm.ClassFile.FieldType.int)) ∈ lw_all := lw_g (lw_at lw_m1 91 rfl) rfl
theorem q124 : (Jvm.Cond.methodLink "ExampleLearner" (102 : Nat) ({ cls := "ExampleLearner", name := "count", desc := "(I)V" } : Jvm.MethodName)) ∈ lw_all := lw_g (lw_at lw_m1 92 rfl) rfl
theorem q125 : (Jvm.Cond.privateMethod ({ cls := "ExampleLearner", name := "count", desc := "(I)V" } : Jvm.MethodName)) ∈ lw_tbl := lw_at lw_m1 93 rfl
theorem q126 : (Jvm.Cond.instanceMethod ({ cls := "ExampleLearner", name := "count", desc := "(I)V" } : Jvm.MethodName)) ∈ lw_all := lw_g (lw_at lw_m1 94 rfl) rfl
theorem q127 : (Jvm.Cond.code ({ cls := "ExampleLearner", name := "count", desc := "(I)V" } : Jvm.MethodName) prog_1_method_22_code (6 : Nat) (Option.none : Option Jvm.ClassFile.FieldType)) ∈ lw_all := lw_g (lw_at lw_m1 95 rfl) rfl
theorem q128 : (Jvm.Cond.methodLink "ExampleLearner" (88 : Nat) ({ cls := "ExampleLearner", name := "followAll", desc := "(I)V" } : Jvm.MethodName)) ∈ lw_all := lw_g (lw_at lw_m1 96 rfl) rfl
theorem q129 : (Jvm.Cond.privateMethod ({ cls := "ExampleLearner", name := "followAll", desc := "(I)V" } : Jvm.MethodName)) ∈ lw_tbl := lw_at lw_m1 97 rfl
theorem q130 : (Jvm.Cond.instanceMethod ({ cls := "ExampleLearner", name := "followAll", desc := "(I)V" } : Jvm.MethodName)) ∈ lw_all := lw_g (lw_at lw_m1 98 rfl) rfl
theorem q131 : (Jvm.Cond.code ({ cls := "ExampleLearner", name := "followAll", desc := "(I)V" } : Jvm.MethodName) prog_1_method_16_code (3 : Nat) (Option.none : Option Jvm.ClassFile.FieldType)) ∈ lw_all := lw_g (lw_at lw_m1 99 rfl) rfl
theorem q132 : (Jvm.Cond.methodLink "ExampleLearner" (77 : Nat) ({ cls := "ExampleLearner", name := "followAtom", desc := "(II)V" } : Jvm.MethodName)) ∈ lw_all := lw_g (lw_at lw_m1 100 rfl) rfl
theorem q133 : (Jvm.Cond.privateMethod ({ cls := "ExampleLearner", name := "followAtom", desc := "(II)V" } : Jvm.MethodName)) ∈ lw_tbl := lw_at lw_m1 101 rfl
theorem q134 : (Jvm.Cond.instanceMethod ({ cls := "ExampleLearner", name := "followAtom", desc := "(II)V" } : Jvm.MethodName)) ∈ lw_all := lw_g (lw_at lw_m1 102 rfl) rfl
theorem q135 : (Jvm.Cond.code ({ cls := "ExampleLearner", name := "followAtom", desc := "(II)V" } : Jvm.MethodName) prog_1_method_15_code (7 : Nat) (Option.none : Option Jvm.ClassFile.FieldType)) ∈ lw_all := lw_g (lw_at lw_m1 103 rfl) rfl
theorem q136 : (Jvm.Cond.methodLink "ExampleLearner" (70 : Nat) ({ cls := "ExampleLearner", name := "sizeOf", desc := "(II)I" } : Jvm.MethodName)) ∈ lw_all := lw_g (lw_at lw_m1 104 rfl) rfl
theorem q137 : (Jvm.Cond.privateMethod ({ cls := "ExampleLearner", name := "sizeOf", desc := "(II)I" } : Jvm.MethodName)) ∈ lw_tbl := lw_at lw_m1 105 rfl
theorem q138 : (Jvm.Cond.instanceMethod ({ cls := "ExampleLearner", name := "sizeOf", desc := "(II)I" } : Jvm.MethodName)) ∈ lw_all := lw_g (lw_at lw_m1 106 rfl) rfl
theorem q139 : (Jvm.Cond.code ({ cls := "ExampleLearner", name := "sizeOf", desc := "(II)I" } : Jvm.MethodName) prog_1_method_12_code (7 : Nat) (Option.some Jvm.ClassFile.FieldType.int)) ∈ lw_all := lw_g (lw_at lw_m1 107 rfl) rfl
theorem q140 : (Jvm.Cond.methodLink "ExampleLearner" (55 : Nat) ({ cls := "ExampleLearner", name := "firstPosition", desc := "(I)I" } : Jvm.MethodName)) ∈ lw_all := lw_g (lw_at lw_m1 108 rfl) rfl
theorem q141 : (Jvm.Cond.static ({ cls := "ExampleLearner", name := "firstPosition", desc := "(I)I" } : Jvm.MethodName)) ∈ lw_all := lw_g (lw_at lw_m1 109 rfl) rfl
theorem q142 : (Jvm.Cond.code ({ cls := "ExampleLearner", name := "firstPosition", desc := "(I)I" } : Jvm.MethodName) prog_1_method_10_code (1 : Nat) (Option.some Jvm.ClassFile.FieldType.int)) ∈ lw_all := lw_g (lw_at lw_m1 110 rfl) rfl
theorem q143 : (Jvm.Cond.methodLink "ExampleLearner" (59 : Nat) ({ cls := "ExampleLearner", name := "placeOf", desc := "(II)I" } : Jvm.MethodName)) ∈ lw_all := lw_g (lw_at lw_m1 111 rfl) rfl
theorem q144 : (Jvm.Cond.privateMethod ({ cls := "ExampleLearner", name := "placeOf", desc := "(II)I" } : Jvm.MethodName)) ∈ lw_tbl := lw_at lw_m1 112 rfl
theorem q145 : (Jvm.Cond.instanceMethod ({ cls := "ExampleLearner", name := "placeOf", desc := "(II)I" } : Jvm.MethodName)) ∈ lw_all := lw_g (lw_at lw_m1 113 rfl) rfl
theorem q146 : (Jvm.Cond.code ({ cls := "ExampleLearner", name := "placeOf", desc := "(II)I" } : Jvm.MethodName) prog_1_method_9_code (5 : Nat) (Option.some Jvm.ClassFile.FieldType.int)) ∈ lw_all := lw_g (lw_at lw_m1 114 rfl) rfl
theorem q147 : (Jvm.Cond.methodLink "ExampleLearner" (63 : Nat) ({ cls := "ExampleLearner", name := "secondPosition", desc := "(I)I" } : Jvm.MethodName)) ∈ lw_all := lw_g (lw_at lw_m1 115 rfl) rfl
theorem q148 : (Jvm.Cond.static ({ cls := "ExampleLearner", name := "secondPosition", desc := "(I)I" } : Jvm.MethodName)) ∈ lw_all := lw_g (lw_at lw_m1 116 rfl) rfl
theorem q149 : (Jvm.Cond.code ({ cls := "ExampleLearner", name := "secondPosition", desc := "(I)I" } : Jvm.MethodName) prog_1_method_11_code (1 : Nat) (Option.some Jvm.ClassFile.FieldType.int)) ∈ lw_all := lw_g (lw_at lw_m1 117 rfl) rfl
theorem q150 : (Jvm.Cond.methodLink "ExampleLearner" (73 : Nat) ({ cls := "ExampleLearner", name := "gives", desc := "(IIII)Z" } : Jvm.MethodName)) ∈ lw_all := lw_g (lw_at lw_m1 118 rfl) rfl
theorem q151 : (Jvm.Cond.privateMethod ({ cls := "ExampleLearner", name := "gives", desc := "(IIII)Z" } : Jvm.MethodName)) ∈ lw_tbl := lw_at lw_m1 119 rfl
theorem q152 : (Jvm.Cond.instanceMethod ({ cls := "ExampleLearner", name := "gives", desc := "(IIII)Z" } : Jvm.MethodName)) ∈ lw_all := lw_g (lw_at lw_m1 120 rfl) rfl
theorem q153 : (Jvm.Cond.code ({ cls := "ExampleLearner", name := "gives", desc := "(IIII)Z" } : Jvm.MethodName) prog_1_method_14_code (7 : Nat) (Option.some Jvm.ClassFile.FieldType.boolean)) ∈ lw_all := lw_g (lw_at lw_m1 121 rfl) rfl
theorem q154 : (Jvm.Cond.methodLink "ExampleLearner" (66 : Nat) ({ cls := "ExampleLearner", name := "letterOf", desc := "(III)I" } : Jvm.MethodName)) ∈ lw_all := lw_g (lw_at lw_m1 122 rfl) rfl
theorem q155 : (Jvm.Cond.privateMethod ({ cls := "ExampleLearner", name := "letterOf", desc := "(III)I" } : Jvm.MethodName)) ∈ lw_tbl := lw_at lw_m1 123 rfl
theorem q156 : (Jvm.Cond.instanceMethod ({ cls := "ExampleLearner", name := "letterOf", desc := "(III)I" } : Jvm.MethodName)) ∈ lw_all := lw_g (lw_at lw_m1 124 rfl) rfl
theorem q157 : (Jvm.Cond.code ({ cls := "ExampleLearner", name := "letterOf", desc := "(III)I" } : Jvm.MethodName) prog_1_method_13_code (6 : Nat) (Option.some Jvm.ClassFile.FieldType.int)) ∈ lw_all := lw_g (lw_at lw_m1 125 rfl) rfl
theorem q158 : (Jvm.Cond.methodLink "ExampleLearner" (92 : Nat) ({ cls := "ExampleLearner", name := "lastNode", desc := "(I)I" } : Jvm.MethodName)) ∈ lw_all := lw_g (lw_at lw_m1 126 rfl) rfl
theorem q159 : (Jvm.Cond.privateMethod ({ cls := "ExampleLearner", name := "lastNode", desc := "(I)I" } : Jvm.MethodName)) ∈ lw_tbl := lw_at lw_m1 127 rfl
theorem q160 : (Jvm.Cond.instanceMethod ({ cls := "ExampleLearner", name := "lastNode", desc := "(I)I" } : Jvm.MethodName)) ∈ lw_all := lw_g (lw_at lw_m1 128 rfl) rfl
theorem q161 : (Jvm.Cond.code ({ cls := "ExampleLearner", name := "lastNode", desc := "(I)I" } : Jvm.MethodName) prog_1_method_19_code (5 : Nat) (Option.some Jvm.ClassFile.FieldType.int)) ∈ lw_all := lw_g (lw_at lw_m1 129 rfl) rfl
theorem q162 : (Jvm.Cond.methodLink "ExampleLearner" (95 : Nat) ({ cls := "ExampleLearner", name := "exists", desc := "(II)Z" } : Jvm.MethodName)) ∈ lw_all := lw_g (lw_at lw_m1 130 rfl) rfl
theorem q163 : (Jvm.Cond.privateMethod ({ cls := "ExampleLearner", name := "exists", desc := "(II)Z" } : Jvm.MethodName)) ∈ lw_tbl := lw_at lw_m1 131 rfl
theorem q164 : (Jvm.Cond.instanceMethod ({ cls := "ExampleLearner", name := "exists", desc := "(II)Z" } : Jvm.MethodName)) ∈ lw_all := lw_g (lw_at lw_m1 132 rfl) rfl
theorem q165 : (Jvm.Cond.code ({ cls := "ExampleLearner", name := "exists", desc := "(II)Z" } : Jvm.MethodName) prog_1_method_20_code (3 : Nat) (Option.some Jvm.ClassFile.FieldType.boolean)) ∈ lw_all := lw_g (lw_at lw_m1 133 rfl) rfl
theorem q166 : (Jvm.Cond.methodLink "ExampleLearner" (99 : Nat) ({ cls := "ExampleLearner", name := "countFrom", desc := "(III)I" } : Jvm.MethodName)) ∈ lw_all := lw_g (lw_at lw_m1 134 rfl) rfl
theorem q167 : (Jvm.Cond.privateMethod ({ cls := "ExampleLearner", name := "countFrom", desc := "(III)I" } : Jvm.MethodName)) ∈ lw_tbl := lw_at lw_m1 135 rfl
theorem q168 : (Jvm.Cond.instanceMethod ({ cls := "ExampleLearner", name := "countFrom", desc := "(III)I" } : Jvm.MethodName)) ∈ lw_all := lw_g (lw_at lw_m1 136 rfl) rfl
theorem q169 : (Jvm.Cond.code ({ cls := "ExampleLearner", name := "countFrom", desc := "(III)I" } : Jvm.MethodName) prog_1_method_21_code (7 : Nat) (Option.some Jvm.ClassFile.FieldType.int)) ∈ lw_all := lw_g (lw_at lw_m1 137 rfl) rfl
theorem q170 : (Jvm.Cond.methodLink "ExampleLearner" (85 : Nat) ({ cls := "ExampleLearner", name := "step", desc := "(III)I" } : Jvm.MethodName)) ∈ lw_all := lw_g (lw_at lw_m1 138 rfl) rfl
theorem q171 : (Jvm.Cond.privateMethod ({ cls := "ExampleLearner", name := "step", desc := "(III)I" } : Jvm.MethodName)) ∈ lw_tbl := lw_at lw_m1 139 rfl
theorem q172 : (Jvm.Cond.instanceMethod ({ cls := "ExampleLearner", name := "step", desc := "(III)I" } : Jvm.MethodName)) ∈ lw_all := lw_g (lw_at lw_m1 140 rfl) rfl
theorem q173 : (Jvm.Cond.code ({ cls := "ExampleLearner", name := "step", desc := "(III)I" } : Jvm.MethodName) prog_1_method_18_code (7 : Nat) (Option.some Jvm.ClassFile.FieldType.int)) ∈ lw_all := lw_g (lw_at lw_m1 141 rfl) rfl
theorem q174 : (Jvm.Cond.methodLink "ExampleLearner" (81 : Nat) ({ cls := "ExampleLearner", name := "stepIn", desc := "(IIII)I" } : Jvm.MethodName)) ∈ lw_all := lw_g (lw_at lw_m1 142 rfl) rfl
theorem q175 : (Jvm.Cond.privateMethod ({ cls := "ExampleLearner", name := "stepIn", desc := "(IIII)I" } : Jvm.MethodName)) ∈ lw_tbl := lw_at lw_m1 143 rfl
theorem q176 : (Jvm.Cond.instanceMethod ({ cls := "ExampleLearner", name := "stepIn", desc := "(IIII)I" } : Jvm.MethodName)) ∈ lw_all := lw_g (lw_at lw_m1 144 rfl) rfl
theorem q177 : (Jvm.Cond.code ({ cls := "ExampleLearner", name := "stepIn", desc := "(IIII)I" } : Jvm.MethodName) prog_1_method_17_code (6 : Nat) (Option.some Jvm.ClassFile.FieldType.int)) ∈ lw_all := lw_g (lw_at lw_m1 145 rfl) rfl
theorem q179 : (Jvm.Cond.instanceMethod ({ cls := "ExampleLearner", name := "programs", desc := "(I)I" } : Jvm.MethodName)) ∈ lw_all := lw_g (lw_at lw_m1 147 rfl) rfl
theorem q180 : (Jvm.Cond.selects "ExampleLearner" ({ cls := "ExampleLearner", name := "programs", desc := "(I)I" } : Jvm.MethodName) ({ cls := "ExampleLearner", name := "programs", desc := "(I)I" } : Jvm.MethodName)) ∈ lw_all := lw_g (lw_at lw_m1 148 rfl) rfl
theorem q181 : (Jvm.Cond.code ({ cls := "ExampleLearner", name := "programs", desc := "(I)I" } : Jvm.MethodName) prog_1_method_28_code (2 : Nat) (Option.some Jvm.ClassFile.FieldType.int)) ∈ lw_all := lw_g (lw_at lw_m1 149 rfl) rfl
theorem q183 : (Jvm.Cond.instanceMethod ({ cls := "ExampleLearner", name := "atom", desc := "(I)I" } : Jvm.MethodName)) ∈ lw_all := lw_g (lw_at lw_m1 151 rfl) rfl
theorem q184 : (Jvm.Cond.selects "ExampleLearner" ({ cls := "ExampleLearner", name := "atom", desc := "(I)I" } : Jvm.MethodName) ({ cls := "ExampleLearner", name := "atom", desc := "(I)I" } : Jvm.MethodName)) ∈ lw_all := lw_g (lw_at lw_m1 152 rfl) rfl
theorem q185 : (Jvm.Cond.code ({ cls := "ExampleLearner", name := "atom", desc := "(I)I" } : Jvm.MethodName) prog_1_method_29_code (2 : Nat) (Option.some Jvm.ClassFile.FieldType.int)) ∈ lw_all := lw_g (lw_at lw_m1 153 rfl) rfl
theorem q186 : (Jvm.Cond.methodLink "ExampleLearner" (116 : Nat) ({ cls := "ExampleLearner", name := "findFirst", desc := "()V" } : Jvm.MethodName)) ∈ lw_all := lw_g (lw_at lw_m1 154 rfl) rfl
theorem q187 : (Jvm.Cond.privateMethod ({ cls := "ExampleLearner", name := "findFirst", desc := "()V" } : Jvm.MethodName)) ∈ lw_tbl := lw_at lw_m1 155 rfl
theorem q188 : (Jvm.Cond.instanceMethod ({ cls := "ExampleLearner", name := "findFirst", desc := "()V" } : Jvm.MethodName)) ∈ lw_all := lw_g (lw_at lw_m1 156 rfl) rfl
theorem q189 : (Jvm.Cond.code ({ cls := "ExampleLearner", name := "findFirst", desc := "()V" } : Jvm.MethodName) prog_1_method_24_code (4 : Nat) (Option.none : Option Jvm.ClassFile.FieldType)) ∈ lw_all := lw_g (lw_at lw_m1 157 rfl) rfl
theorem q190 : (Jvm.Cond.methodLink "ExampleLearner" (112 : Nat) ({ cls := "ExampleLearner", name := "goesOn", desc := "(III)Z" } : Jvm.MethodName)) ∈ lw_all := lw_g (lw_at lw_m1 158 rfl) rfl
theorem q191 : (Jvm.Cond.privateMethod ({ cls := "ExampleLearner", name := "goesOn", desc := "(III)Z" } : Jvm.MethodName)) ∈ lw_tbl := lw_at lw_m1 159 rfl
theorem q192 : (Jvm.Cond.instanceMethod ({ cls := "ExampleLearner", name := "goesOn", desc := "(III)Z" } : Jvm.MethodName)) ∈ lw_all := lw_g (lw_at lw_m1 160 rfl) rfl
theorem q193 : (Jvm.Cond.code ({ cls := "ExampleLearner", name := "goesOn", desc := "(III)Z" } : Jvm.MethodName) prog_1_method_25_code (5 : Nat) (Option.some Jvm.ClassFile.FieldType.boolean)) ∈ lw_all := lw_g (lw_at lw_m1 161 rfl) rfl
theorem q195 : (Jvm.Cond.instanceMethod ({ cls := "ExampleLearner", name := "can", desc := "()Z" } : Jvm.MethodName)) ∈ lw_all := lw_g (lw_at lw_m1 163 rfl) rfl
theorem q196 : (Jvm.Cond.selects "ExampleLearner" ({ cls := "ExampleLearner", name := "can", desc := "()Z" } : Jvm.MethodName) ({ cls := "ExampleLearner", name := "can", desc := "()Z" } : Jvm.MethodName)) ∈ lw_all := lw_g (lw_at lw_m1 164 rfl) rfl
theorem q197 : (Jvm.Cond.code ({ cls := "ExampleLearner", name := "can", desc := "()Z" } : Jvm.MethodName) prog_1_method_31_code (2 : Nat) (Option.some Jvm.ClassFile.FieldType.boolean)) ∈ lw_all := lw_g (lw_at lw_m1 165 rfl) rfl
theorem q198 : (Jvm.Cond.methodLink "ExampleLearner" (122 : Nat) ({ cls := "ExampleLearner", name := "waysForQuery", desc := "()I" } : Jvm.MethodName)) ∈ lw_all := lw_g (lw_at lw_m1 166 rfl) rfl
theorem q199 : (Jvm.Cond.privateMethod ({ cls := "ExampleLearner", name := "waysForQuery", desc := "()I" } : Jvm.MethodName)) ∈ lw_tbl := lw_at lw_m1 167 rfl
theorem q200 : (Jvm.Cond.instanceMethod ({ cls := "ExampleLearner", name := "waysForQuery", desc := "()I" } : Jvm.MethodName)) ∈ lw_all := lw_g (lw_at lw_m1 168 rfl) rfl
theorem q201 : (Jvm.Cond.code ({ cls := "ExampleLearner", name := "waysForQuery", desc := "()I" } : Jvm.MethodName) prog_1_method_30_code (2 : Nat) (Option.some Jvm.ClassFile.FieldType.int)) ∈ lw_all := lw_g (lw_at lw_m1 169 rfl) rfl
theorem q203 : (Jvm.Cond.instanceMethod ({ cls := "ExampleLearner", name := "ways", desc := "()I" } : Jvm.MethodName)) ∈ lw_all := lw_g (lw_at lw_m1 171 rfl) rfl
theorem q204 : (Jvm.Cond.selects "ExampleLearner" ({ cls := "ExampleLearner", name := "ways", desc := "()I" } : Jvm.MethodName) ({ cls := "ExampleLearner", name := "ways", desc := "()I" } : Jvm.MethodName)) ∈ lw_all := lw_g (lw_at lw_m1 172 rfl) rfl
theorem q205 : (Jvm.Cond.code ({ cls := "ExampleLearner", name := "ways", desc := "()I" } : Jvm.MethodName) prog_1_method_32_code (1 : Nat) (Option.some Jvm.ClassFile.FieldType.int)) ∈ lw_all := lw_g (lw_at lw_m1 173 rfl) rfl
theorem q207 : (Jvm.Cond.instanceMethod ({ cls := "ExampleLearner", name := "resultLength", desc := "()I" } : Jvm.MethodName)) ∈ lw_all := lw_g (lw_at lw_m1 175 rfl) rfl
theorem q208 : (Jvm.Cond.selects "ExampleLearner" ({ cls := "ExampleLearner", name := "resultLength", desc := "()I" } : Jvm.MethodName) ({ cls := "ExampleLearner", name := "resultLength", desc := "()I" } : Jvm.MethodName)) ∈ lw_all := lw_g (lw_at lw_m1 176 rfl) rfl
theorem q209 : (Jvm.Cond.code ({ cls := "ExampleLearner", name := "resultLength", desc := "()I" } : Jvm.MethodName) prog_1_method_33_code (2 : Nat) (Option.some Jvm.ClassFile.FieldType.int)) ∈ lw_all := lw_g (lw_at lw_m1 177 rfl) rfl
theorem q210 : (Jvm.Cond.methodLink "ExampleLearner" (125 : Nat) ({ cls := "ExampleLearner", name := "run", desc := "()Z" } : Jvm.MethodName)) ∈ lw_all := lw_g (lw_at lw_m1 178 rfl) rfl
theorem q211 : (Jvm.Cond.privateMethod ({ cls := "ExampleLearner", name := "run", desc := "()Z" } : Jvm.MethodName)) ∈ lw_tbl := lw_at lw_m1 179 rfl
theorem q212 : (Jvm.Cond.instanceMethod ({ cls := "ExampleLearner", name := "run", desc := "()Z" } : Jvm.MethodName)) ∈ lw_all := lw_g (lw_at lw_m1 180 rfl) rfl
theorem q213 : (Jvm.Cond.code ({ cls := "ExampleLearner", name := "run", desc := "()Z" } : Jvm.MethodName) prog_1_method_26_code (4 : Nat) (Option.some Jvm.ClassFile.FieldType.boolean)) ∈ lw_all := lw_g (lw_at lw_m1 181 rfl) rfl
theorem q215 : (Jvm.Cond.instanceMethod ({ cls := "ExampleLearner", name := "result", desc := "(I)I" } : Jvm.MethodName)) ∈ lw_all := lw_g (lw_at lw_m1 183 rfl) rfl
theorem q216 : (Jvm.Cond.selects "ExampleLearner" ({ cls := "ExampleLearner", name := "result", desc := "(I)I" } : Jvm.MethodName) ({ cls := "ExampleLearner", name := "result", desc := "(I)I" } : Jvm.MethodName)) ∈ lw_all := lw_g (lw_at lw_m1 184 rfl) rfl
theorem q217 : (Jvm.Cond.code ({ cls := "ExampleLearner", name := "result", desc := "(I)I" } : Jvm.MethodName) prog_1_method_34_code (3 : Nat) (Option.some Jvm.ClassFile.FieldType.int)) ∈ lw_all := lw_g (lw_at lw_m1 185 rfl) rfl
theorem q219 : (Jvm.Cond.instanceMethod ({ cls := "ExampleLearner", name := "right", desc := "(I)Z" } : Jvm.MethodName)) ∈ lw_all := lw_g (lw_at lw_m1 187 rfl) rfl
theorem q220 : (Jvm.Cond.selects "ExampleLearner" ({ cls := "ExampleLearner", name := "right", desc := "(I)Z" } : Jvm.MethodName) ({ cls := "ExampleLearner", name := "right", desc := "(I)Z" } : Jvm.MethodName)) ∈ lw_all := lw_g (lw_at lw_m1 188 rfl) rfl
theorem q221 : (Jvm.Cond.code ({ cls := "ExampleLearner", name := "right", desc := "(I)Z" } : Jvm.MethodName) prog_1_method_35_code (3 : Nat) (Option.some Jvm.ClassFile.FieldType.boolean)) ∈ lw_all := lw_g (lw_at lw_m1 189 rfl) rfl
theorem in_X0 : ∀ w ∈ wsX00, w ∈ lw_all := lw_in wsX00 [57, 59, 61, 63, 65, 67, 69, 71, 73, 75, 77, 79, 81, 83] (by decide +kernel) (by decide +kernel)
def RX1 : String := "ExampleLearnerModel"
def TX1 : u_T := fun k => match k with
  | 0 => ("ExampleLearnerModel", "examples", "I", false)
  | 1 => ("ExampleLearnerModel", "inputs", "[I", true)
  | 2 => ("ExampleLearnerModel", "outputs", "[I", true)
  | 3 => ("ExampleLearnerModel", "inLengths", "[I", true)
  | 4 => ("ExampleLearnerModel", "outLengths", "[I", true)
  | 5 => ("ExampleLearnerModel", "made", "[I", true)
  | 6 => ("ExampleLearnerModel", "first", "[I", true)
  | 7 => ("ExampleLearnerModel", "found", "Z", false)
  | _ => ("ExampleLearnerModel", "result", "[I", true)
def tyX1 : Nat → FieldType := fun k => match k with
  | 0 => .int
  | 1 => .array .int
  | 2 => .array .int
  | 3 => .array .int
  | 4 => .array .int
  | 5 => .array .int
  | 6 => .array .int
  | 7 => .boolean
  | _ => .array .int
abbrev wsX10 : List Cond := u_ws RX1 TX1 9
theorem nmX1 : ∀ a, a < 9 → ∀ b, b < 9 → a ≠ b → (TX1 a).2.1 ≠ (TX1 b).2.1 := by decide +kernel
theorem tyX1_ok : ∀ k, k < 9 → parseFieldDescriptor (TX1 k).2.2.1 = some (tyX1 k) := by decide +kernel
abbrev cX1_init : ByteArray := prog_3_method_1_code
def yX1_init : MethodName := ⟨RX1, "<init>", "()V"⟩
abbrev cX1_typeIn : ByteArray := prog_3_method_3_code
def yX1_typeIn : MethodName := ⟨RX1, "typeIn", "(I)I"⟩
abbrev cX1_badLetter : ByteArray := prog_3_method_2_code
def yX1_badLetter : MethodName := ⟨RX1, "badLetter", "(I)Z"⟩
abbrev cX1_typeOut : ByteArray := prog_3_method_4_code
def yX1_typeOut : MethodName := ⟨RX1, "typeOut", "(I)I"⟩
abbrev cX1_erase : ByteArray := prog_3_method_5_code
def yX1_erase : MethodName := ⟨RX1, "erase", "()V"⟩
abbrev cX1_learn : ByteArray := prog_3_method_6_code
def yX1_learn : MethodName := ⟨RX1, "learn", "()I"⟩
abbrev cX1_forget : ByteArray := prog_3_method_7_code
def yX1_forget : MethodName := ⟨RX1, "forget", "()I"⟩
abbrev cX1_least : ByteArray := prog_3_method_19_code
def yX1_least : MethodName := ⟨RX1, "least", "()I"⟩
abbrev cX1_search : ByteArray := prog_3_method_18_code
def yX1_search : MethodName := ⟨RX1, "search", "(IZ)I"⟩
abbrev cX1_note : ByteArray := prog_3_method_15_code
def yX1_note : MethodName := ⟨RX1, "note", "(III)V"⟩
abbrev cX1_put : ByteArray := prog_3_method_13_code
def yX1_put : MethodName := ⟨RX1, "put", "(IIZ)Z"⟩
abbrev cX1_counts : ByteArray := prog_3_method_12_code
def yX1_counts : MethodName := ⟨RX1, "counts", "(IZ)Z"⟩
abbrev cX1_after : ByteArray := prog_3_method_11_code
def yX1_after : MethodName := ⟨RX1, "after", "(III)I"⟩
abbrev cX1_size : ByteArray := prog_3_method_9_code
def yX1_size : MethodName := ⟨RX1, "size", "(II)I"⟩
abbrev cX1_place : ByteArray := prog_3_method_8_code
def yX1_place : MethodName := ⟨RX1, "place", "(II)I"⟩
abbrev cX1_letter : ByteArray := prog_3_method_10_code
def yX1_letter : MethodName := ⟨RX1, "letter", "(III)I"⟩
abbrev cX1_seconds : ByteArray := prog_3_method_17_code
def yX1_seconds : MethodName := ⟨RX1, "seconds", "(IIZ)I"⟩
abbrev cX1_thirds : ByteArray := prog_3_method_16_code
def yX1_thirds : MethodName := ⟨RX1, "thirds", "(IIZ)I"⟩
abbrev cX1_whole : ByteArray := prog_3_method_14_code
def yX1_whole : MethodName := ⟨RX1, "whole", "(IZ)Z"⟩
abbrev cX1_programs : ByteArray := prog_3_method_20_code
def yX1_programs : MethodName := ⟨RX1, "programs", "(I)I"⟩
abbrev cX1_atom : ByteArray := prog_3_method_21_code
def yX1_atom : MethodName := ⟨RX1, "atom", "(I)I"⟩
abbrev cX1_can : ByteArray := prog_3_method_22_code
def yX1_can : MethodName := ⟨RX1, "can", "()Z"⟩
abbrev cX1_ways : ByteArray := prog_3_method_23_code
def yX1_ways : MethodName := ⟨RX1, "ways", "()I"⟩
abbrev cX1_resultLength : ByteArray := prog_3_method_25_code
def yX1_resultLength : MethodName := ⟨RX1, "resultLength", "()I"⟩
abbrev cX1_make : ByteArray := prog_3_method_24_code
def yX1_make : MethodName := ⟨RX1, "make", "()I"⟩
abbrev cX1_result : ByteArray := prog_3_method_26_code
def yX1_result : MethodName := ⟨RX1, "result", "(I)I"⟩
abbrev cX1_right : ByteArray := prog_3_method_27_code
def yX1_right : MethodName := ⟨RX1, "right", "(I)Z"⟩
theorem q34 : (Jvm.Cond.initialized "ExampleLearnerModel") ∈ lw_all := lw_g (lw_at lw_m1 2 rfl) rfl
theorem q223 : (Jvm.Cond.instantiable "ExampleLearnerModel" (9 : Nat)) ∈ lw_all := lw_g (lw_at lw_m1 191 rfl) rfl
theorem q225 : (Jvm.Cond.instanceMethod ({ cls := "ExampleLearnerModel", name := "<init>", desc := "()V" } : Jvm.MethodName)) ∈ lw_all := lw_g (lw_at lw_m1 193 rfl) rfl
theorem q226 : (Jvm.Cond.code ({ cls := "ExampleLearnerModel", name := "<init>", desc := "()V" } : Jvm.MethodName) prog_3_method_1_code (1 : Nat) (Option.none : Option Jvm.ClassFile.FieldType)) ∈ lw_all := lw_g (lw_at lw_m1 194 rfl) rfl
theorem q227 : (Jvm.Cond.methodLink "ExampleLearnerModel" (1 : Nat) ({ cls := "java/lang/Object", name := "<init>", desc := "()V" } : Jvm.MethodName)) ∈ lw_all := lw_g (lw_at lw_m1 195 rfl) rfl
theorem q228 : (Jvm.Cond.fieldLink "ExampleLearnerModel" (35 : Nat) "ExampleLearnerModel" "examples" "I") ∈ lw_all := lw_g (lw_at lw_m1 196 rfl) rfl
theorem q229 : (Jvm.Cond.fieldLink "ExampleLearnerModel" (7 : Nat) "ExampleLearnerModel" "inputs" "[I") ∈ lw_all := lw_g (lw_at lw_m1 197 rfl) rfl
theorem q230 : (Jvm.Cond.fieldLink "ExampleLearnerModel" (13 : Nat) "ExampleLearnerModel" "outputs" "[I") ∈ lw_all := lw_g (lw_at lw_m1 198 rfl) rfl
theorem q231 : (Jvm.Cond.fieldLink "ExampleLearnerModel" (16 : Nat) "ExampleLearnerModel" "inLengths" "[I") ∈ lw_all := lw_g (lw_at lw_m1 199 rfl) rfl
theorem q232 : (Jvm.Cond.fieldLink "ExampleLearnerModel" (19 : Nat) "ExampleLearnerModel" "outLengths" "[I") ∈ lw_all := lw_g (lw_at lw_m1 200 rfl) rfl
theorem q233 : (Jvm.Cond.fieldLink "ExampleLearnerModel" (22 : Nat) "ExampleLearnerModel" "made" "[I") ∈ lw_all := lw_g (lw_at lw_m1 201 rfl) rfl
theorem q234 : (Jvm.Cond.fieldLink "ExampleLearnerModel" (25 : Nat) "ExampleLearnerModel" "first" "[I") ∈ lw_all := lw_g (lw_at lw_m1 202 rfl) rfl
theorem q235 : (Jvm.Cond.fieldLink "ExampleLearnerModel" (57 : Nat) "ExampleLearnerModel" "found" "Z") ∈ lw_all := lw_g (lw_at lw_m1 203 rfl) rfl
theorem q236 : (Jvm.Cond.fieldLink "ExampleLearnerModel" (28 : Nat) "ExampleLearnerModel" "result" "[I") ∈ lw_all := lw_g (lw_at lw_m1 204 rfl) rfl
theorem q237 : (Jvm.Cond.lays "ExampleLearnerModel" "ExampleLearnerModel" "examples" "I") ∈ lw_all := lw_g (lw_at lw_m1 205 rfl) rfl
theorem q238 : (Jvm.Cond.soleField "ExampleLearnerModel" "examples") ∈ lw_all := lw_g (lw_at lw_m1 206 rfl) rfl
theorem q239 : (Jvm.Cond.laysFinal "ExampleLearnerModel" "ExampleLearnerModel" "inputs" "[I") ∈ lw_all := lw_g (lw_at lw_m1 207 rfl) rfl
theorem q240 : (Jvm.Cond.soleField "ExampleLearnerModel" "inputs") ∈ lw_all := lw_g (lw_at lw_m1 208 rfl) rfl
theorem q241 : (Jvm.Cond.laysFinal "ExampleLearnerModel" "ExampleLearnerModel" "outputs" "[I") ∈ lw_all := lw_g (lw_at lw_m1 209 rfl) rfl
theorem q242 : (Jvm.Cond.soleField "ExampleLearnerModel" "outputs") ∈ lw_all := lw_g (lw_at lw_m1 210 rfl) rfl
theorem q243 : (Jvm.Cond.laysFinal "ExampleLearnerModel" "ExampleLearnerModel" "inLengths" "[I") ∈ lw_all := lw_g (lw_at lw_m1 211 rfl) rfl
theorem q244 : (Jvm.Cond.soleField "ExampleLearnerModel" "inLengths") ∈ lw_all := lw_g (lw_at lw_m1 212 rfl) rfl
theorem q245 : (Jvm.Cond.laysFinal "ExampleLearnerModel" "ExampleLearnerModel" "outLengths" "[I") ∈ lw_all := lw_g (lw_at lw_m1 213 rfl) rfl
theorem q246 : (Jvm.Cond.soleField "ExampleLearnerModel" "outLengths") ∈ lw_all := lw_g (lw_at lw_m1 214 rfl) rfl
theorem q247 : (Jvm.Cond.laysFinal "ExampleLearnerModel" "ExampleLearnerModel" "made" "[I") ∈ lw_all := lw_g (lw_at lw_m1 215 rfl) rfl
theorem q248 : (Jvm.Cond.soleField "ExampleLearnerModel" "made") ∈ lw_all := lw_g (lw_at lw_m1 216 rfl) rfl
theorem q249 : (Jvm.Cond.laysFinal "ExampleLearnerModel" "ExampleLearnerModel" "first" "[I") ∈ lw_all := lw_g (lw_at lw_m1 217 rfl) rfl
theorem q250 : (Jvm.Cond.soleField "ExampleLearnerModel" "first") ∈ lw_all := lw_g (lw_at lw_m1 218 rfl) rfl
theorem q251 : (Jvm.Cond.lays "ExampleLearnerModel" "ExampleLearnerModel" "found" "Z") ∈ lw_all := lw_g (lw_at lw_m1 219 rfl) rfl
theorem q252 : (Jvm.Cond.soleField "ExampleLearnerModel" "found") ∈ lw_all := lw_g (lw_at lw_m1 220 rfl) rfl
theorem q253 : (Jvm.Cond.laysFinal "ExampleLearnerModel" "ExampleLearnerModel" "result" "[I") ∈ lw_all := lw_g (lw_at lw_m1 221 rfl) rfl
theorem q254 : (Jvm.Cond.soleField "ExampleLearnerModel" "result") ∈ lw_all := lw_g (lw_at lw_m1 222 rfl) rfl
theorem q255 : (Jvm.Cond.superclass "ExampleLearnerModel" "java/lang/Object") ∈ lw_all := lw_g (lw_at lw_m1 223 rfl) rfl
theorem q257 : (Jvm.Cond.instanceMethod ({ cls := "ExampleLearnerModel", name := "typeIn", desc := "(I)I" } : Jvm.MethodName)) ∈ lw_all := lw_g (lw_at lw_m1 225 rfl) rfl
theorem q258 : (Jvm.Cond.selects "ExampleLearnerModel" ({ cls := "ExampleLearnerModel", name := "typeIn", desc := "(I)I" } : Jvm.MethodName) ({ cls := "ExampleLearnerModel", name := "typeIn", desc := "(I)I" } : Jvm.MethodName)) ∈ lw_all := lw_g (lw_at lw_m1 226 rfl) rfl
theorem q259 : (Jvm.Cond.code ({ cls := "ExampleLearnerModel", name := "typeIn", desc := "(I)I" } : Jvm.MethodName) prog_3_method_3_code (2 : Nat) (Option.some Jvm.ClassFile.FieldType.int)) ∈ lw_all := lw_g (lw_at lw_m1 227 rfl) rfl
theorem q260 : (Jvm.Cond.methodLink "ExampleLearnerModel" (31 : Nat) ({ cls := "ExampleLearnerModel", name := "badLetter", desc := "(I)Z" } : Jvm.MethodName)) ∈ lw_all := lw_g (lw_at lw_m1 228 rfl) rfl
theorem q261 : (Jvm.Cond.privateMethod ({ cls := "ExampleLearnerModel", name := "badLetter", desc := "(I)Z" } : Jvm.MethodName)) ∈ lw_tbl := lw_at lw_m1 229 rfl
theorem q262 : (Jvm.Cond.instanceMethod ({ cls := "ExampleLearnerModel", name := "badLetter", desc := "(I)Z" } : Jvm.MethodName)) ∈ lw_all := lw_g (lw_at lw_m1 230 rfl) rfl
theorem q263 : (Jvm.Cond.code ({ cls := "ExampleLearnerModel", name := "badLetter", desc := "(I)Z" } : Jvm.MethodName) prog_3_method_2_code (2 : Nat) (Option.some Jvm.ClassFile.FieldType.boolean)) ∈ lw_all := lw_g (lw_at lw_m1 231 rfl) rfl
theorem q265 : (Jvm.Cond.instanceMethod ({ cls := "ExampleLearnerModel", name := "typeOut", desc := "(I)I" } : Jvm.MethodName)) ∈ lw_all := lw_g (lw_at lw_m1 233 rfl) rfl
theorem q266 : (Jvm.Cond.selects "ExampleLearnerModel" ({ cls := "ExampleLearnerModel", name := "typeOut", desc := "(I)I" } : Jvm.MethodName) ({ cls := "ExampleLearnerModel", name := "typeOut", desc := "(I)I" } : Jvm.MethodName)) ∈ lw_all := lw_g (lw_at lw_m1 234 rfl) rfl
theorem q267 : (Jvm.Cond.code ({ cls := "ExampleLearnerModel", name := "typeOut", desc := "(I)I" } : Jvm.MethodName) prog_3_method_4_code (2 : Nat) (Option.some Jvm.ClassFile.FieldType.int)) ∈ lw_all := lw_g (lw_at lw_m1 235 rfl) rfl
theorem q269 : (Jvm.Cond.instanceMethod ({ cls := "ExampleLearnerModel", name := "erase", desc := "()V" } : Jvm.MethodName)) ∈ lw_all := lw_g (lw_at lw_m1 237 rfl) rfl
theorem q270 : (Jvm.Cond.selects "ExampleLearnerModel" ({ cls := "ExampleLearnerModel", name := "erase", desc := "()V" } : Jvm.MethodName) ({ cls := "ExampleLearnerModel", name := "erase", desc := "()V" } : Jvm.MethodName)) ∈ lw_all := lw_g (lw_at lw_m1 238 rfl) rfl
theorem q271 : (Jvm.Cond.code ({ cls := "ExampleLearnerModel", name := "erase", desc := "()V" } : Jvm.MethodName) prog_3_method_5_code (1 : Nat) (Option.none : Option Jvm.ClassFile.FieldType)) ∈ lw_all := lw_g (lw_at lw_m1 239 rfl) rfl
theorem q273 : (Jvm.Cond.instanceMethod ({ cls := "ExampleLearnerModel", name := "learn", desc := "()I" } : Jvm.MethodName)) ∈ lw_all := lw_g (lw_at lw_m2 1 rfl) rfl
theorem q274 : (Jvm.Cond.selects "ExampleLearnerModel" ({ cls := "ExampleLearnerModel", name := "learn", desc := "()I" } : Jvm.MethodName) ({ cls := "ExampleLearnerModel", name := "learn", desc := "()I" } : Jvm.MethodName)) ∈ lw_all := lw_g (lw_at lw_m2 2 rfl) rfl
theorem q275 : (Jvm.Cond.code ({ cls := "ExampleLearnerModel", name := "learn", desc := "()I" } : Jvm.MethodName) prog_3_method_6_code (2 : Nat) (Option.some Jvm.ClassFile.FieldType.int)) ∈ lw_all := lw_g (lw_at lw_m2 3 rfl) rfl
theorem q277 : (Jvm.Cond.instanceMethod ({ cls := "ExampleLearnerModel", name := "forget", desc := "()I" } : Jvm.MethodName)) ∈ lw_all := lw_g (lw_at lw_m2 5 rfl) rfl
theorem q278 : (Jvm.Cond.selects "ExampleLearnerModel" ({ cls := "ExampleLearnerModel", name := "forget", desc := "()I" } : Jvm.MethodName) ({ cls := "ExampleLearnerModel", name := "forget", desc := "()I" } : Jvm.MethodName)) ∈ lw_all := lw_g (lw_at lw_m2 6 rfl) rfl
theorem q279 : (Jvm.Cond.code ({ cls := "ExampleLearnerModel", name := "forget", desc := "()I" } : Jvm.MethodName) prog_3_method_7_code (1 : Nat) (Option.some Jvm.ClassFile.FieldType.int)) ∈ lw_all := lw_g (lw_at lw_m2 7 rfl) rfl
theorem q281 : (Jvm.Cond.instanceMethod ({ cls := "ExampleLearnerModel", name := "least", desc := "()I" } : Jvm.MethodName)) ∈ lw_all := lw_g (lw_at lw_m2 9 rfl) rfl
theorem q282 : (Jvm.Cond.selects "ExampleLearnerModel" ({ cls := "ExampleLearnerModel", name := "least", desc := "()I" } : Jvm.MethodName) ({ cls := "ExampleLearnerModel", name := "least", desc := "()I" } : Jvm.MethodName)) ∈ lw_all := lw_g (lw_at lw_m2 10 rfl) rfl
theorem q283 : (Jvm.Cond.code ({ cls := "ExampleLearnerModel", name := "least", desc := "()I" } : Jvm.MethodName) prog_3_method_19_code (2 : Nat) (Option.some Jvm.ClassFile.FieldType.int)) ∈ lw_all := lw_g (lw_at lw_m2 11 rfl) rfl
theorem q284 : (Jvm.Cond.methodLink "ExampleLearnerModel" (81 : Nat) ({ cls := "ExampleLearnerModel", name := "search", desc := "(IZ)I" } : Jvm.MethodName)) ∈ lw_all := lw_g (lw_at lw_m2 12 rfl) rfl
theorem q285 : (Jvm.Cond.privateMethod ({ cls := "ExampleLearnerModel", name := "search", desc := "(IZ)I" } : Jvm.MethodName)) ∈ lw_tbl := lw_at lw_m2 13 rfl
theorem q286 : (Jvm.Cond.instanceMethod ({ cls := "ExampleLearnerModel", name := "search", desc := "(IZ)I" } : Jvm.MethodName)) ∈ lw_all := lw_g (lw_at lw_m2 14 rfl) rfl
theorem q287 : (Jvm.Cond.code ({ cls := "ExampleLearnerModel", name := "search", desc := "(IZ)I" } : Jvm.MethodName) prog_3_method_18_code (6 : Nat) (Option.some Jvm.ClassFile.FieldType.int)) ∈ lw_all := lw_g (lw_at lw_m2 15 rfl) rfl
theorem q288 : (Jvm.Cond.methodLink "ExampleLearnerModel" (68 : Nat) ({ cls := "ExampleLearnerModel", name := "note", desc := "(III)V" } : Jvm.MethodName)) ∈ lw_all := lw_g (lw_at lw_m2 16 rfl) rfl
theorem q289 : (Jvm.Cond.privateMethod ({ cls := "ExampleLearnerModel", name := "note", desc := "(III)V" } : Jvm.MethodName)) ∈ lw_tbl := lw_at lw_m2 17 rfl
theorem q290 : (Jvm.Cond.instanceMethod ({ cls := "ExampleLearnerModel", name := "note", desc := "(III)V" } : Jvm.MethodName)) ∈ lw_all := lw_g (lw_at lw_m2 18 rfl) rfl
theorem q291 : (Jvm.Cond.code ({ cls := "ExampleLearnerModel", name := "note", desc := "(III)V" } : Jvm.MethodName) prog_3_method_15_code (4 : Nat) (Option.none : Option Jvm.ClassFile.FieldType)) ∈ lw_all := lw_g (lw_at lw_m2 19 rfl) rfl
theorem q292 : (Jvm.Cond.constant "ExampleLearnerModel" (76 : Nat) (40000 : Int32)) ∈ lw_all := lw_g (lw_at lw_m2 20 rfl) rfl
theorem q293 : (Jvm.Cond.constant "ExampleLearnerModel" (77 : Nat) (8000000 : Int32)) ∈ lw_all := lw_g (lw_at lw_m2 21 rfl) rfl
theorem q294 : (Jvm.Cond.methodLink "ExampleLearnerModel" (61 : Nat) ({ cls := "ExampleLearnerModel", name := "put", desc := "(IIZ)Z" } : Jvm.MethodName)) ∈ lw_all := lw_g (lw_at lw_m2 22 rfl) rfl
theorem q295 : (Jvm.Cond.privateMethod ({ cls := "ExampleLearnerModel", name := "put", desc := "(IIZ)Z" } : Jvm.MethodName)) ∈ lw_tbl := lw_at lw_m2 23 rfl
theorem q296 : (Jvm.Cond.instanceMethod ({ cls := "ExampleLearnerModel", name := "put", desc := "(IIZ)Z" } : Jvm.MethodName)) ∈ lw_all := lw_g (lw_at lw_m2 24 rfl) rfl
theorem q297 : (Jvm.Cond.code ({ cls := "ExampleLearnerModel", name := "put", desc := "(IIZ)Z" } : Jvm.MethodName) prog_3_method_13_code (6 : Nat) (Option.some Jvm.ClassFile.FieldType.boolean)) ∈ lw_all := lw_g (lw_at lw_m2 25 rfl) rfl
theorem q298 : (Jvm.Cond.methodLink "ExampleLearnerModel" (50 : Nat) ({ cls := "ExampleLearnerModel", name := "counts", desc := "(IZ)Z" } : Jvm.MethodName)) ∈ lw_all := lw_g (lw_at lw_m2 26 rfl) rfl
theorem q299 : (Jvm.Cond.privateMethod ({ cls := "ExampleLearnerModel", name := "counts", desc := "(IZ)Z" } : Jvm.MethodName)) ∈ lw_tbl := lw_at lw_m2 27 rfl
theorem q300 : (Jvm.Cond.instanceMethod ({ cls := "ExampleLearnerModel", name := "counts", desc := "(IZ)Z" } : Jvm.MethodName)) ∈ lw_all := lw_g (lw_at lw_m2 28 rfl) rfl
theorem q301 : (Jvm.Cond.code ({ cls := "ExampleLearnerModel", name := "counts", desc := "(IZ)Z" } : Jvm.MethodName) prog_3_method_12_code (3 : Nat) (Option.some Jvm.ClassFile.FieldType.boolean)) ∈ lw_all := lw_g (lw_at lw_m2 29 rfl) rfl
theorem q302 : (Jvm.Cond.methodLink "ExampleLearnerModel" (54 : Nat) ({ cls := "ExampleLearnerModel", name := "after", desc := "(III)I" } : Jvm.MethodName)) ∈ lw_all := lw_g (lw_at lw_m2 30 rfl) rfl
theorem q303 : (Jvm.Cond.privateMethod ({ cls := "ExampleLearnerModel", name := "after", desc := "(III)I" } : Jvm.MethodName)) ∈ lw_tbl := lw_at lw_m2 31 rfl
theorem q304 : (Jvm.Cond.instanceMethod ({ cls := "ExampleLearnerModel", name := "after", desc := "(III)I" } : Jvm.MethodName)) ∈ lw_all := lw_g (lw_at lw_m2 32 rfl) rfl
theorem q305 : (Jvm.Cond.code ({ cls := "ExampleLearnerModel", name := "after", desc := "(III)I" } : Jvm.MethodName) prog_3_method_11_code (6 : Nat) (Option.some Jvm.ClassFile.FieldType.int)) ∈ lw_all := lw_g (lw_at lw_m2 33 rfl) rfl
theorem q306 : (Jvm.Cond.methodLink "ExampleLearnerModel" (43 : Nat) ({ cls := "ExampleLearnerModel", name := "size", desc := "(II)I" } : Jvm.MethodName)) ∈ lw_all := lw_g (lw_at lw_m2 34 rfl) rfl
theorem q307 : (Jvm.Cond.privateMethod ({ cls := "ExampleLearnerModel", name := "size", desc := "(II)I" } : Jvm.MethodName)) ∈ lw_tbl := lw_at lw_m2 35 rfl
theorem q308 : (Jvm.Cond.instanceMethod ({ cls := "ExampleLearnerModel", name := "size", desc := "(II)I" } : Jvm.MethodName)) ∈ lw_all := lw_g (lw_at lw_m2 36 rfl) rfl
theorem q309 : (Jvm.Cond.code ({ cls := "ExampleLearnerModel", name := "size", desc := "(II)I" } : Jvm.MethodName) prog_3_method_9_code (5 : Nat) (Option.some Jvm.ClassFile.FieldType.int)) ∈ lw_all := lw_g (lw_at lw_m2 37 rfl) rfl
theorem q310 : (Jvm.Cond.methodLink "ExampleLearnerModel" (39 : Nat) ({ cls := "ExampleLearnerModel", name := "place", desc := "(II)I" } : Jvm.MethodName)) ∈ lw_all := lw_g (lw_at lw_m2 38 rfl) rfl
theorem q311 : (Jvm.Cond.privateMethod ({ cls := "ExampleLearnerModel", name := "place", desc := "(II)I" } : Jvm.MethodName)) ∈ lw_tbl := lw_at lw_m2 39 rfl
theorem q312 : (Jvm.Cond.instanceMethod ({ cls := "ExampleLearnerModel", name := "place", desc := "(II)I" } : Jvm.MethodName)) ∈ lw_all := lw_g (lw_at lw_m2 40 rfl) rfl
theorem q313 : (Jvm.Cond.code ({ cls := "ExampleLearnerModel", name := "place", desc := "(II)I" } : Jvm.MethodName) prog_3_method_8_code (3 : Nat) (Option.some Jvm.ClassFile.FieldType.int)) ∈ lw_all := lw_g (lw_at lw_m2 41 rfl) rfl
theorem q314 : (Jvm.Cond.methodLink "ExampleLearnerModel" (46 : Nat) ({ cls := "ExampleLearnerModel", name := "letter", desc := "(III)I" } : Jvm.MethodName)) ∈ lw_all := lw_g (lw_at lw_m2 42 rfl) rfl
theorem q315 : (Jvm.Cond.privateMethod ({ cls := "ExampleLearnerModel", name := "letter", desc := "(III)I" } : Jvm.MethodName)) ∈ lw_tbl := lw_at lw_m2 43 rfl
theorem q316 : (Jvm.Cond.instanceMethod ({ cls := "ExampleLearnerModel", name := "letter", desc := "(III)I" } : Jvm.MethodName)) ∈ lw_all := lw_g (lw_at lw_m2 44 rfl) rfl
theorem q317 : (Jvm.Cond.code ({ cls := "ExampleLearnerModel", name := "letter", desc := "(III)I" } : Jvm.MethodName) prog_3_method_10_code (6 : Nat) (Option.some Jvm.ClassFile.FieldType.int)) ∈ lw_all := lw_g (lw_at lw_m2 45 rfl) rfl
theorem q318 : (Jvm.Cond.methodLink "ExampleLearnerModel" (78 : Nat) ({ cls := "ExampleLearnerModel", name := "seconds", desc := "(IIZ)I" } : Jvm.MethodName)) ∈ lw_all := lw_g (lw_at lw_m2 46 rfl) rfl
theorem q319 : (Jvm.Cond.privateMethod ({ cls := "ExampleLearnerModel", name := "seconds", desc := "(IIZ)I" } : Jvm.MethodName)) ∈ lw_tbl := lw_at lw_m2 47 rfl
theorem q320 : (Jvm.Cond.instanceMethod ({ cls := "ExampleLearnerModel", name := "seconds", desc := "(IIZ)I" } : Jvm.MethodName)) ∈ lw_all := lw_g (lw_at lw_m2 48 rfl) rfl
theorem q321 : (Jvm.Cond.code ({ cls := "ExampleLearnerModel", name := "seconds", desc := "(IIZ)I" } : Jvm.MethodName) prog_3_method_17_code (7 : Nat) (Option.some Jvm.ClassFile.FieldType.int)) ∈ lw_all := lw_g (lw_at lw_m2 49 rfl) rfl
theorem q322 : (Jvm.Cond.methodLink "ExampleLearnerModel" (72 : Nat) ({ cls := "ExampleLearnerModel", name := "thirds", desc := "(IIZ)I" } : Jvm.MethodName)) ∈ lw_all := lw_g (lw_at lw_m2 50 rfl) rfl
theorem q323 : (Jvm.Cond.privateMethod ({ cls := "ExampleLearnerModel", name := "thirds", desc := "(IIZ)I" } : Jvm.MethodName)) ∈ lw_tbl := lw_at lw_m2 51 rfl
theorem q324 : (Jvm.Cond.instanceMethod ({ cls := "ExampleLearnerModel", name := "thirds", desc := "(IIZ)I" } : Jvm.MethodName)) ∈ lw_all := lw_g (lw_at lw_m2 52 rfl) rfl
theorem q325 : (Jvm.Cond.code ({ cls := "ExampleLearnerModel", name := "thirds", desc := "(IIZ)I" } : Jvm.MethodName) prog_3_method_16_code (6 : Nat) (Option.some Jvm.ClassFile.FieldType.int)) ∈ lw_all := lw_g (lw_at lw_m2 53 rfl) rfl
theorem q326 : (Jvm.Cond.methodLink "ExampleLearnerModel" (65 : Nat) ({ cls := "ExampleLearnerModel", name := "whole", desc := "(IZ)Z" } : Jvm.MethodName)) ∈ lw_all := lw_g (lw_at lw_m2 54 rfl) rfl
theorem q327 : (Jvm.Cond.privateMethod ({ cls := "ExampleLearnerModel", name := "whole", desc := "(IZ)Z" } : Jvm.MethodName)) ∈ lw_tbl := lw_at lw_m2 55 rfl
theorem q328 : (Jvm.Cond.instanceMethod ({ cls := "ExampleLearnerModel", name := "whole", desc := "(IZ)Z" } : Jvm.MethodName)) ∈ lw_all := lw_g (lw_at lw_m2 56 rfl) rfl
theorem q329 : (Jvm.Cond.code ({ cls := "ExampleLearnerModel", name := "whole", desc := "(IZ)Z" } : Jvm.MethodName) prog_3_method_14_code (4 : Nat) (Option.some Jvm.ClassFile.FieldType.boolean)) ∈ lw_all := lw_g (lw_at lw_m2 57 rfl) rfl
theorem q331 : (Jvm.Cond.instanceMethod ({ cls := "ExampleLearnerModel", name := "programs", desc := "(I)I" } : Jvm.MethodName)) ∈ lw_all := lw_g (lw_at lw_m2 59 rfl) rfl
theorem q332 : (Jvm.Cond.selects "ExampleLearnerModel" ({ cls := "ExampleLearnerModel", name := "programs", desc := "(I)I" } : Jvm.MethodName) ({ cls := "ExampleLearnerModel", name := "programs", desc := "(I)I" } : Jvm.MethodName)) ∈ lw_all := lw_g (lw_at lw_m2 60 rfl) rfl
theorem q333 : (Jvm.Cond.code ({ cls := "ExampleLearnerModel", name := "programs", desc := "(I)I" } : Jvm.MethodName) prog_3_method_20_code (2 : Nat) (Option.some Jvm.ClassFile.FieldType.int)) ∈ lw_all := lw_g (lw_at lw_m2 61 rfl) rfl
theorem q335 : (Jvm.Cond.instanceMethod ({ cls := "ExampleLearnerModel", name := "atom", desc := "(I)I" } : Jvm.MethodName)) ∈ lw_all := lw_g (lw_at lw_m2 63 rfl) rfl
theorem q336 : (Jvm.Cond.selects "ExampleLearnerModel" ({ cls := "ExampleLearnerModel", name := "atom", desc := "(I)I" } : Jvm.MethodName) ({ cls := "ExampleLearnerModel", name := "atom", desc := "(I)I" } : Jvm.MethodName)) ∈ lw_all := lw_g (lw_at lw_m2 64 rfl) rfl
theorem q337 : (Jvm.Cond.code ({ cls := "ExampleLearnerModel", name := "atom", desc := "(I)I" } : Jvm.MethodName) prog_3_method_21_code (3 : Nat) (Option.some Jvm.ClassFile.FieldType.int)) ∈ lw_all := lw_g (lw_at lw_m2 65 rfl) rfl
theorem q338 : (Jvm.Cond.methodLink "ExampleLearnerModel" (85 : Nat) ({ cls := "ExampleLearnerModel", name := "least", desc := "()I" } : Jvm.MethodName)) ∈ lw_all := lw_g (lw_at lw_m2 66 rfl) rfl
theorem q340 : (Jvm.Cond.instanceMethod ({ cls := "ExampleLearnerModel", name := "can", desc := "()Z" } : Jvm.MethodName)) ∈ lw_all := lw_g (lw_at lw_m2 68 rfl) rfl
theorem q341 : (Jvm.Cond.selects "ExampleLearnerModel" ({ cls := "ExampleLearnerModel", name := "can", desc := "()Z" } : Jvm.MethodName) ({ cls := "ExampleLearnerModel", name := "can", desc := "()Z" } : Jvm.MethodName)) ∈ lw_all := lw_g (lw_at lw_m2 69 rfl) rfl
theorem q342 : (Jvm.Cond.code ({ cls := "ExampleLearnerModel", name := "can", desc := "()Z" } : Jvm.MethodName) prog_3_method_22_code (1 : Nat) (Option.some Jvm.ClassFile.FieldType.boolean)) ∈ lw_all := lw_g (lw_at lw_m2 70 rfl) rfl
theorem q343 : (Jvm.Cond.methodLink "ExampleLearnerModel" (89 : Nat) ({ cls := "ExampleLearnerModel", name := "ways", desc := "()I" } : Jvm.MethodName)) ∈ lw_all := lw_g (lw_at lw_m2 71 rfl) rfl
theorem q344 : (Jvm.Cond.instanceMethod ({ cls := "ExampleLearnerModel", name := "ways", desc := "()I" } : Jvm.MethodName)) ∈ lw_all := lw_g (lw_at lw_m2 72 rfl) rfl
theorem q345 : (Jvm.Cond.selects "ExampleLearnerModel" ({ cls := "ExampleLearnerModel", name := "ways", desc := "()I" } : Jvm.MethodName) ({ cls := "ExampleLearnerModel", name := "ways", desc := "()I" } : Jvm.MethodName)) ∈ lw_all := lw_g (lw_at lw_m2 73 rfl) rfl
theorem q346 : (Jvm.Cond.code ({ cls := "ExampleLearnerModel", name := "ways", desc := "()I" } : Jvm.MethodName) prog_3_method_23_code (2 : Nat) (Option.some Jvm.ClassFile.FieldType.int)) ∈ lw_all := lw_g (lw_at lw_m2 74 rfl) rfl
theorem q349 : (Jvm.Cond.instanceMethod ({ cls := "ExampleLearnerModel", name := "resultLength", desc := "()I" } : Jvm.MethodName)) ∈ lw_all := lw_g (lw_at lw_m2 77 rfl) rfl
theorem q350 : (Jvm.Cond.selects "ExampleLearnerModel" ({ cls := "ExampleLearnerModel", name := "resultLength", desc := "()I" } : Jvm.MethodName) ({ cls := "ExampleLearnerModel", name := "resultLength", desc := "()I" } : Jvm.MethodName)) ∈ lw_all := lw_g (lw_at lw_m2 78 rfl) rfl
theorem q351 : (Jvm.Cond.code ({ cls := "ExampleLearnerModel", name := "resultLength", desc := "()I" } : Jvm.MethodName) prog_3_method_25_code (1 : Nat) (Option.some Jvm.ClassFile.FieldType.int)) ∈ lw_all := lw_g (lw_at lw_m2 79 rfl) rfl
theorem q352 : (Jvm.Cond.methodLink "ExampleLearnerModel" (92 : Nat) ({ cls := "ExampleLearnerModel", name := "make", desc := "()I" } : Jvm.MethodName)) ∈ lw_all := lw_g (lw_at lw_m2 80 rfl) rfl
theorem q353 : (Jvm.Cond.privateMethod ({ cls := "ExampleLearnerModel", name := "make", desc := "()I" } : Jvm.MethodName)) ∈ lw_tbl := lw_at lw_m2 81 rfl
theorem q354 : (Jvm.Cond.instanceMethod ({ cls := "ExampleLearnerModel", name := "make", desc := "()I" } : Jvm.MethodName)) ∈ lw_all := lw_g (lw_at lw_m2 82 rfl) rfl
theorem q355 : (Jvm.Cond.code ({ cls := "ExampleLearnerModel", name := "make", desc := "()I" } : Jvm.MethodName) prog_3_method_24_code (6 : Nat) (Option.some Jvm.ClassFile.FieldType.int)) ∈ lw_all := lw_g (lw_at lw_m2 83 rfl) rfl
theorem q357 : (Jvm.Cond.instanceMethod ({ cls := "ExampleLearnerModel", name := "result", desc := "(I)I" } : Jvm.MethodName)) ∈ lw_all := lw_g (lw_at lw_m2 85 rfl) rfl
theorem q358 : (Jvm.Cond.selects "ExampleLearnerModel" ({ cls := "ExampleLearnerModel", name := "result", desc := "(I)I" } : Jvm.MethodName) ({ cls := "ExampleLearnerModel", name := "result", desc := "(I)I" } : Jvm.MethodName)) ∈ lw_all := lw_g (lw_at lw_m2 86 rfl) rfl
theorem q359 : (Jvm.Cond.code ({ cls := "ExampleLearnerModel", name := "result", desc := "(I)I" } : Jvm.MethodName) prog_3_method_26_code (3 : Nat) (Option.some Jvm.ClassFile.FieldType.int)) ∈ lw_all := lw_g (lw_at lw_m2 87 rfl) rfl
theorem q361 : (Jvm.Cond.instanceMethod ({ cls := "ExampleLearnerModel", name := "right", desc := "(I)Z" } : Jvm.MethodName)) ∈ lw_all := lw_g (lw_at lw_m2 89 rfl) rfl
theorem q362 : (Jvm.Cond.selects "ExampleLearnerModel" ({ cls := "ExampleLearnerModel", name := "right", desc := "(I)Z" } : Jvm.MethodName) ({ cls := "ExampleLearnerModel", name := "right", desc := "(I)Z" } : Jvm.MethodName)) ∈ lw_all := lw_g (lw_at lw_m2 90 rfl) rfl
theorem q363 : (Jvm.Cond.code ({ cls := "ExampleLearnerModel", name := "right", desc := "(I)Z" } : Jvm.MethodName) prog_3_method_27_code (3 : Nat) (Option.some Jvm.ClassFile.FieldType.boolean)) ∈ lw_all := lw_g (lw_at lw_m2 91 rfl) rfl
theorem in_X1 : ∀ w ∈ wsX10, w ∈ lw_all := lw_in wsX10 [237, 239, 241, 243, 245, 247, 249, 251, 253] (by decide +kernel) (by decide +kernel)
def RJ0 : String := "java/lang/Object"
abbrev cJ0_init : ByteArray := object_method_1_code
def yJ0_init : MethodName := ⟨RJ0, "<init>", "()V"⟩
theorem q41 : (Jvm.Cond.instanceMethod ({ cls := "java/lang/Object", name := "<init>", desc := "()V" } : Jvm.MethodName)) ∈ lw_all := lw_g (lw_at lw_m1 9 rfl) rfl
theorem q42 : (Jvm.Cond.code ({ cls := "java/lang/Object", name := "<init>", desc := "()V" } : Jvm.MethodName) object_method_1_code (1 : Nat) (Option.none : Option Jvm.ClassFile.FieldType)) ∈ lw_all := lw_g (lw_at lw_m1 10 rfl) rfl
theorem q86 : (Jvm.Cond.arrayClass Jvm.ClassFile.FieldType.int) ∈ lw_all := lw_g (lw_at lw_m1 54 rfl) rfl
theorem q87 : (Jvm.Cond.arrayClass Jvm.ClassFile.FieldType.byte) ∈ lw_all := lw_g (lw_at lw_m1 55 rfl) rfl
theorem q32 : (Jvm.Cond.initialized "ExampleLearnerLaw") ∈ lw_all := lw_g (lw_at lw_m1 0 rfl) rfl
theorem q35 : (Jvm.Cond.classLink "ExampleLearnerLaw" (7 : Nat) "ExampleLearner") ∈ lw_all := lw_g (lw_at lw_m1 3 rfl) rfl
theorem q37 : (Jvm.Cond.methodLink "ExampleLearnerLaw" (9 : Nat) ({ cls := "ExampleLearner", name := "<init>", desc := "()V" } : Jvm.MethodName)) ∈ lw_all := lw_g (lw_at lw_m1 5 rfl) rfl
theorem q88 : (Jvm.Cond.methodLink "ExampleLearnerLaw" (13 : Nat) ({ cls := "ExampleLearner", name := "typeIn", desc := "(I)I" } : Jvm.MethodName)) ∈ lw_all := lw_g (lw_at lw_m1 56 rfl) rfl
theorem q96 : (Jvm.Cond.methodLink "ExampleLearnerLaw" (18 : Nat) ({ cls := "ExampleLearner", name := "typeOut", desc := "(I)I" } : Jvm.MethodName)) ∈ lw_all := lw_g (lw_at lw_m1 64 rfl) rfl
theorem q100 : (Jvm.Cond.methodLink "ExampleLearnerLaw" (22 : Nat) ({ cls := "ExampleLearner", name := "erase", desc := "()V" } : Jvm.MethodName)) ∈ lw_all := lw_g (lw_at lw_m1 68 rfl) rfl
theorem q104 : (Jvm.Cond.methodLink "ExampleLearnerLaw" (26 : Nat) ({ cls := "ExampleLearner", name := "learn", desc := "()I" } : Jvm.MethodName)) ∈ lw_all := lw_g (lw_at lw_m1 72 rfl) rfl
theorem q112 : (Jvm.Cond.methodLink "ExampleLearnerLaw" (31 : Nat) ({ cls := "ExampleLearner", name := "forget", desc := "()I" } : Jvm.MethodName)) ∈ lw_all := lw_g (lw_at lw_m1 80 rfl) rfl
theorem q116 : (Jvm.Cond.methodLink "ExampleLearnerLaw" (35 : Nat) ({ cls := "ExampleLearner", name := "least", desc := "()I" } : Jvm.MethodName)) ∈ lw_all := lw_g (lw_at lw_m1 84 rfl) rfl
theorem q178 : (Jvm.Cond.methodLink "ExampleLearnerLaw" (39 : Nat) ({ cls := "ExampleLearner", name := "programs", desc := "(I)I" } : Jvm.MethodName)) ∈ lw_all := lw_g (lw_at lw_m1 146 rfl) rfl
theorem q182 : (Jvm.Cond.methodLink "ExampleLearnerLaw" (43 : Nat) ({ cls := "ExampleLearner", name := "atom", desc := "(I)I" } : Jvm.MethodName)) ∈ lw_all := lw_g (lw_at lw_m1 150 rfl) rfl
theorem q194 : (Jvm.Cond.methodLink "ExampleLearnerLaw" (47 : Nat) ({ cls := "ExampleLearner", name := "can", desc := "()Z" } : Jvm.MethodName)) ∈ lw_all := lw_g (lw_at lw_m1 162 rfl) rfl
theorem q202 : (Jvm.Cond.methodLink "ExampleLearnerLaw" (52 : Nat) ({ cls := "ExampleLearner", name := "ways", desc := "()I" } : Jvm.MethodName)) ∈ lw_all := lw_g (lw_at lw_m1 170 rfl) rfl
theorem q206 : (Jvm.Cond.methodLink "ExampleLearnerLaw" (56 : Nat) ({ cls := "ExampleLearner", name := "resultLength", desc := "()I" } : Jvm.MethodName)) ∈ lw_all := lw_g (lw_at lw_m1 174 rfl) rfl
theorem q214 : (Jvm.Cond.methodLink "ExampleLearnerLaw" (60 : Nat) ({ cls := "ExampleLearner", name := "result", desc := "(I)I" } : Jvm.MethodName)) ∈ lw_all := lw_g (lw_at lw_m1 182 rfl) rfl
theorem q218 : (Jvm.Cond.methodLink "ExampleLearnerLaw" (64 : Nat) ({ cls := "ExampleLearner", name := "right", desc := "(I)Z" } : Jvm.MethodName)) ∈ lw_all := lw_g (lw_at lw_m1 186 rfl) rfl
theorem q222 : (Jvm.Cond.classLink "ExampleLearnerLaw" (10 : Nat) "ExampleLearnerModel") ∈ lw_all := lw_g (lw_at lw_m1 190 rfl) rfl
theorem q224 : (Jvm.Cond.methodLink "ExampleLearnerLaw" (12 : Nat) ({ cls := "ExampleLearnerModel", name := "<init>", desc := "()V" } : Jvm.MethodName)) ∈ lw_all := lw_g (lw_at lw_m1 192 rfl) rfl
theorem q256 : (Jvm.Cond.methodLink "ExampleLearnerLaw" (17 : Nat) ({ cls := "ExampleLearnerModel", name := "typeIn", desc := "(I)I" } : Jvm.MethodName)) ∈ lw_all := lw_g (lw_at lw_m1 224 rfl) rfl
theorem q264 : (Jvm.Cond.methodLink "ExampleLearnerLaw" (21 : Nat) ({ cls := "ExampleLearnerModel", name := "typeOut", desc := "(I)I" } : Jvm.MethodName)) ∈ lw_all := lw_g (lw_at lw_m1 232 rfl) rfl
theorem q268 : (Jvm.Cond.methodLink "ExampleLearnerLaw" (25 : Nat) ({ cls := "ExampleLearnerModel", name := "erase", desc := "()V" } : Jvm.MethodName)) ∈ lw_all := lw_g (lw_at lw_m1 236 rfl) rfl
theorem q272 : (Jvm.Cond.methodLink "ExampleLearnerLaw" (30 : Nat) ({ cls := "ExampleLearnerModel", name := "learn", desc := "()I" } : Jvm.MethodName)) ∈ lw_all := lw_g (lw_at lw_m2 0 rfl) rfl
theorem q276 : (Jvm.Cond.methodLink "ExampleLearnerLaw" (34 : Nat) ({ cls := "ExampleLearnerModel", name := "forget", desc := "()I" } : Jvm.MethodName)) ∈ lw_all := lw_g (lw_at lw_m2 4 rfl) rfl
theorem q280 : (Jvm.Cond.methodLink "ExampleLearnerLaw" (38 : Nat) ({ cls := "ExampleLearnerModel", name := "least", desc := "()I" } : Jvm.MethodName)) ∈ lw_all := lw_g (lw_at lw_m2 8 rfl) rfl
theorem q330 : (Jvm.Cond.methodLink "ExampleLearnerLaw" (42 : Nat) ({ cls := "ExampleLearnerModel", name := "programs", desc := "(I)I" } : Jvm.MethodName)) ∈ lw_all := lw_g (lw_at lw_m2 58 rfl) rfl
theorem q334 : (Jvm.Cond.methodLink "ExampleLearnerLaw" (46 : Nat) ({ cls := "ExampleLearnerModel", name := "atom", desc := "(I)I" } : Jvm.MethodName)) ∈ lw_all := lw_g (lw_at lw_m2 62 rfl) rfl
theorem q339 : (Jvm.Cond.methodLink "ExampleLearnerLaw" (51 : Nat) ({ cls := "ExampleLearnerModel", name := "can", desc := "()Z" } : Jvm.MethodName)) ∈ lw_all := lw_g (lw_at lw_m2 67 rfl) rfl
theorem q347 : (Jvm.Cond.methodLink "ExampleLearnerLaw" (55 : Nat) ({ cls := "ExampleLearnerModel", name := "ways", desc := "()I" } : Jvm.MethodName)) ∈ lw_all := lw_g (lw_at lw_m2 75 rfl) rfl
theorem q348 : (Jvm.Cond.methodLink "ExampleLearnerLaw" (59 : Nat) ({ cls := "ExampleLearnerModel", name := "resultLength", desc := "()I" } : Jvm.MethodName)) ∈ lw_all := lw_g (lw_at lw_m2 76 rfl) rfl
theorem q356 : (Jvm.Cond.methodLink "ExampleLearnerLaw" (63 : Nat) ({ cls := "ExampleLearnerModel", name := "result", desc := "(I)I" } : Jvm.MethodName)) ∈ lw_all := lw_g (lw_at lw_m2 84 rfl) rfl
theorem q360 : (Jvm.Cond.methodLink "ExampleLearnerLaw" (68 : Nat) ({ cls := "ExampleLearnerModel", name := "right", desc := "(I)Z" } : Jvm.MethodName)) ∈ lw_all := lw_g (lw_at lw_m2 88 rfl) rfl
abbrev cL_law : ByteArray := code
end
section
set_option maxRecDepth 100000
theorem dX0_init_0 : decode cX0_init 0 = .ok (.aload_n 0, 1) := by decide +kernel
theorem dX0_init_1 : decode cX0_init 1 = .ok (.invokespecial 1, 3) := by decide +kernel
theorem dX0_init_4 : decode cX0_init 4 = .ok (.aload_n 0, 1) := by decide +kernel
theorem dX0_init_5 : decode cX0_init 5 = .ok (.iconst 3, 1) := by decide +kernel
theorem dX0_init_6 : decode cX0_init 6 = .ok (.newarray .int, 2) := by decide +kernel
theorem dX0_init_8 : decode cX0_init 8 = .ok (.putfield 7, 3) := by decide +kernel
theorem dX0_init_11 : decode cX0_init 11 = .ok (.aload_n 0, 1) := by decide +kernel
theorem dX0_init_12 : decode cX0_init 12 = .ok (.iconst 3, 1) := by decide +kernel
theorem dX0_init_13 : decode cX0_init 13 = .ok (.newarray .int, 2) := by decide +kernel
theorem dX0_init_15 : decode cX0_init 15 = .ok (.putfield 13, 3) := by decide +kernel
theorem dX0_init_18 : decode cX0_init 18 = .ok (.aload_n 0, 1) := by decide +kernel
theorem dX0_init_19 : decode cX0_init 19 = .ok (.bipush 18, 2) := by decide +kernel
theorem dX0_init_21 : decode cX0_init 21 = .ok (.newarray .int, 2) := by decide +kernel
theorem dX0_init_23 : decode cX0_init 23 = .ok (.putfield 16, 3) := by decide +kernel
theorem dX0_init_26 : decode cX0_init 26 = .ok (.aload_n 0, 1) := by decide +kernel
theorem dX0_init_27 : decode cX0_init 27 = .ok (.bipush 18, 2) := by decide +kernel
theorem dX0_init_29 : decode cX0_init 29 = .ok (.newarray .int, 2) := by decide +kernel
theorem dX0_init_31 : decode cX0_init 31 = .ok (.putfield 19, 3) := by decide +kernel
theorem dX0_init_34 : decode cX0_init 34 = .ok (.aload_n 0, 1) := by decide +kernel
theorem dX0_init_35 : decode cX0_init 35 = .ok (.sipush 4200, 3) := by decide +kernel
theorem dX0_init_38 : decode cX0_init 38 = .ok (.newarray .byte, 2) := by decide +kernel
theorem dX0_init_40 : decode cX0_init 40 = .ok (.putfield 22, 3) := by decide +kernel
theorem dX0_init_43 : decode cX0_init 43 = .ok (.aload_n 0, 1) := by decide +kernel
theorem dX0_init_44 : decode cX0_init 44 = .ok (.sipush 1372, 3) := by decide +kernel
theorem dX0_init_47 : decode cX0_init 47 = .ok (.newarray .int, 2) := by decide +kernel
theorem dX0_init_49 : decode cX0_init 49 = .ok (.putfield 26, 3) := by decide +kernel
theorem dX0_init_52 : decode cX0_init 52 = .ok (.aload_n 0, 1) := by decide +kernel
theorem dX0_init_53 : decode cX0_init 53 = .ok (.iconst 3, 1) := by decide +kernel
theorem dX0_init_54 : decode cX0_init 54 = .ok (.newarray .int, 2) := by decide +kernel
theorem dX0_init_56 : decode cX0_init 56 = .ok (.putfield 29, 3) := by decide +kernel
theorem dX0_init_59 : decode cX0_init 59 = .ok (.aload_n 0, 1) := by decide +kernel
theorem dX0_init_60 : decode cX0_init 60 = .ok (.bipush 18, 2) := by decide +kernel
theorem dX0_init_62 : decode cX0_init 62 = .ok (.newarray .int, 2) := by decide +kernel
theorem dX0_init_64 : decode cX0_init 64 = .ok (.putfield 32, 3) := by decide +kernel
theorem dX0_init_67 : decode cX0_init 67 = .ok (.aload_n 0, 1) := by decide +kernel
theorem dX0_init_68 : decode cX0_init 68 = .ok (.iconst (-1), 1) := by decide +kernel
theorem dX0_init_69 : decode cX0_init 69 = .ok (.putfield 35, 3) := by decide +kernel
theorem dX0_init_72 : decode cX0_init 72 = .ok (.return_, 1) := by decide +kernel
theorem dX0_typeIn_0 : decode cX0_typeIn 0 = .ok (.iload_n 1, 1) := by decide +kernel
theorem dX0_typeIn_1 : decode cX0_typeIn 1 = .ok (.ifCond .lt 8, 3) := by decide +kernel
theorem dX0_typeIn_4 : decode cX0_typeIn 4 = .ok (.iload_n 1, 1) := by decide +kernel
theorem dX0_typeIn_5 : decode cX0_typeIn 5 = .ok (.iconst 3, 1) := by decide +kernel
theorem dX0_typeIn_6 : decode cX0_typeIn 6 = .ok (.if_icmp .le 5, 3) := by decide +kernel
theorem dX0_typeIn_9 : decode cX0_typeIn 9 = .ok (.iconst (-1), 1) := by decide +kernel
theorem dX0_typeIn_10 : decode cX0_typeIn 10 = .ok (.ireturn, 1) := by decide +kernel
theorem dX0_typeIn_11 : decode cX0_typeIn 11 = .ok (.aload_n 0, 1) := by decide +kernel
theorem dX0_typeIn_12 : decode cX0_typeIn 12 = .ok (.getfield 7, 3) := by decide +kernel
theorem dX0_typeIn_15 : decode cX0_typeIn 15 = .ok (.iconst 2, 1) := by decide +kernel
theorem dX0_typeIn_16 : decode cX0_typeIn 16 = .ok (.iaload, 1) := by decide +kernel
theorem dX0_typeIn_17 : decode cX0_typeIn 17 = .ok (.bipush 6, 2) := by decide +kernel
theorem dX0_typeIn_19 : decode cX0_typeIn 19 = .ok (.if_icmp .lt 6, 3) := by decide +kernel
theorem dX0_typeIn_22 : decode cX0_typeIn 22 = .ok (.bipush (-2), 2) := by decide +kernel
theorem dX0_typeIn_24 : decode cX0_typeIn 24 = .ok (.ireturn, 1) := by decide +kernel
theorem dX0_typeIn_25 : decode cX0_typeIn 25 = .ok (.aload_n 0, 1) := by decide +kernel
theorem dX0_typeIn_26 : decode cX0_typeIn 26 = .ok (.getfield 16, 3) := by decide +kernel
theorem dX0_typeIn_29 : decode cX0_typeIn 29 = .ok (.bipush 12, 2) := by decide +kernel
theorem dX0_typeIn_31 : decode cX0_typeIn 31 = .ok (.aload_n 0, 1) := by decide +kernel
theorem dX0_typeIn_32 : decode cX0_typeIn 32 = .ok (.getfield 7, 3) := by decide +kernel
theorem dX0_typeIn_35 : decode cX0_typeIn 35 = .ok (.iconst 2, 1) := by decide +kernel
theorem dX0_typeIn_36 : decode cX0_typeIn 36 = .ok (.iaload, 1) := by decide +kernel
theorem dX0_typeIn_37 : decode cX0_typeIn 37 = .ok (.iadd, 1) := by decide +kernel
theorem dX0_typeIn_38 : decode cX0_typeIn 38 = .ok (.iload_n 1, 1) := by decide +kernel
theorem dX0_typeIn_39 : decode cX0_typeIn 39 = .ok (.iastore, 1) := by decide +kernel
theorem dX0_typeIn_40 : decode cX0_typeIn 40 = .ok (.aload_n 0, 1) := by decide +kernel
theorem dX0_typeIn_41 : decode cX0_typeIn 41 = .ok (.getfield 7, 3) := by decide +kernel
theorem dX0_typeIn_44 : decode cX0_typeIn 44 = .ok (.iconst 2, 1) := by decide +kernel
theorem dX0_typeIn_45 : decode cX0_typeIn 45 = .ok (.dup2, 1) := by decide +kernel
theorem dX0_typeIn_46 : decode cX0_typeIn 46 = .ok (.iaload, 1) := by decide +kernel
theorem dX0_typeIn_47 : decode cX0_typeIn 47 = .ok (.iconst 1, 1) := by decide +kernel
theorem dX0_typeIn_48 : decode cX0_typeIn 48 = .ok (.iadd, 1) := by decide +kernel
theorem dX0_typeIn_49 : decode cX0_typeIn 49 = .ok (.iastore, 1) := by decide +kernel
theorem dX0_typeIn_50 : decode cX0_typeIn 50 = .ok (.aload_n 0, 1) := by decide +kernel
theorem dX0_typeIn_51 : decode cX0_typeIn 51 = .ok (.invokevirtual 46, 3) := by decide +kernel
theorem dX0_typeIn_54 : decode cX0_typeIn 54 = .ok (.aload_n 0, 1) := by decide +kernel
theorem dX0_typeIn_55 : decode cX0_typeIn 55 = .ok (.getfield 7, 3) := by decide +kernel
theorem dX0_typeIn_58 : decode cX0_typeIn 58 = .ok (.iconst 2, 1) := by decide +kernel
theorem dX0_typeIn_59 : decode cX0_typeIn 59 = .ok (.iaload, 1) := by decide +kernel
theorem dX0_typeIn_60 : decode cX0_typeIn 60 = .ok (.ireturn, 1) := by decide +kernel
theorem dX0_typed_0 : decode cX0_typed 0 = .ok (.aload_n 0, 1) := by decide +kernel
theorem dX0_typed_1 : decode cX0_typed 1 = .ok (.iconst 0, 1) := by decide +kernel
theorem dX0_typed_2 : decode cX0_typed 2 = .ok (.putfield 39, 3) := by decide +kernel
theorem dX0_typed_5 : decode cX0_typed 5 = .ok (.aload_n 0, 1) := by decide +kernel
theorem dX0_typed_6 : decode cX0_typed 6 = .ok (.getfield 35, 3) := by decide +kernel
theorem dX0_typed_9 : decode cX0_typed 9 = .ok (.iconst 2, 1) := by decide +kernel
theorem dX0_typed_10 : decode cX0_typed 10 = .ok (.if_icmp .ne 8, 3) := by decide +kernel
theorem dX0_typed_13 : decode cX0_typed 13 = .ok (.aload_n 0, 1) := by decide +kernel
theorem dX0_typed_14 : decode cX0_typed 14 = .ok (.iconst (-1), 1) := by decide +kernel
theorem dX0_typed_15 : decode cX0_typed 15 = .ok (.putfield 35, 3) := by decide +kernel
theorem dX0_typed_18 : decode cX0_typed 18 = .ok (.return_, 1) := by decide +kernel
theorem dX0_typeOut_0 : decode cX0_typeOut 0 = .ok (.iload_n 1, 1) := by decide +kernel
theorem dX0_typeOut_1 : decode cX0_typeOut 1 = .ok (.ifCond .lt 8, 3) := by decide +kernel
theorem dX0_typeOut_4 : decode cX0_typeOut 4 = .ok (.iload_n 1, 1) := by decide +kernel
theorem dX0_typeOut_5 : decode cX0_typeOut 5 = .ok (.iconst 3, 1) := by decide +kernel
theorem dX0_typeOut_6 : decode cX0_typeOut 6 = .ok (.if_icmp .le 5, 3) := by decide +kernel
theorem dX0_typeOut_9 : decode cX0_typeOut 9 = .ok (.iconst (-1), 1) := by decide +kernel
theorem dX0_typeOut_10 : decode cX0_typeOut 10 = .ok (.ireturn, 1) := by decide +kernel
theorem dX0_typeOut_11 : decode cX0_typeOut 11 = .ok (.aload_n 0, 1) := by decide +kernel
theorem dX0_typeOut_12 : decode cX0_typeOut 12 = .ok (.getfield 13, 3) := by decide +kernel
theorem dX0_typeOut_15 : decode cX0_typeOut 15 = .ok (.iconst 2, 1) := by decide +kernel
theorem dX0_typeOut_16 : decode cX0_typeOut 16 = .ok (.iaload, 1) := by decide +kernel
theorem dX0_typeOut_17 : decode cX0_typeOut 17 = .ok (.bipush 6, 2) := by decide +kernel
theorem dX0_typeOut_19 : decode cX0_typeOut 19 = .ok (.if_icmp .lt 6, 3) := by decide +kernel
theorem dX0_typeOut_22 : decode cX0_typeOut 22 = .ok (.bipush (-2), 2) := by decide +kernel
theorem dX0_typeOut_24 : decode cX0_typeOut 24 = .ok (.ireturn, 1) := by decide +kernel
theorem dX0_typeOut_25 : decode cX0_typeOut 25 = .ok (.aload_n 0, 1) := by decide +kernel
theorem dX0_typeOut_26 : decode cX0_typeOut 26 = .ok (.getfield 19, 3) := by decide +kernel
theorem dX0_typeOut_29 : decode cX0_typeOut 29 = .ok (.bipush 12, 2) := by decide +kernel
theorem dX0_typeOut_31 : decode cX0_typeOut 31 = .ok (.aload_n 0, 1) := by decide +kernel
theorem dX0_typeOut_32 : decode cX0_typeOut 32 = .ok (.getfield 13, 3) := by decide +kernel
theorem dX0_typeOut_35 : decode cX0_typeOut 35 = .ok (.iconst 2, 1) := by decide +kernel
theorem dX0_typeOut_36 : decode cX0_typeOut 36 = .ok (.iaload, 1) := by decide +kernel
theorem dX0_typeOut_37 : decode cX0_typeOut 37 = .ok (.iadd, 1) := by decide +kernel
theorem dX0_typeOut_38 : decode cX0_typeOut 38 = .ok (.iload_n 1, 1) := by decide +kernel
theorem dX0_typeOut_39 : decode cX0_typeOut 39 = .ok (.iastore, 1) := by decide +kernel
theorem dX0_typeOut_40 : decode cX0_typeOut 40 = .ok (.aload_n 0, 1) := by decide +kernel
theorem dX0_typeOut_41 : decode cX0_typeOut 41 = .ok (.getfield 13, 3) := by decide +kernel
theorem dX0_typeOut_44 : decode cX0_typeOut 44 = .ok (.iconst 2, 1) := by decide +kernel
theorem dX0_typeOut_45 : decode cX0_typeOut 45 = .ok (.dup2, 1) := by decide +kernel
theorem dX0_typeOut_46 : decode cX0_typeOut 46 = .ok (.iaload, 1) := by decide +kernel
theorem dX0_typeOut_47 : decode cX0_typeOut 47 = .ok (.iconst 1, 1) := by decide +kernel
theorem dX0_typeOut_48 : decode cX0_typeOut 48 = .ok (.iadd, 1) := by decide +kernel
theorem dX0_typeOut_49 : decode cX0_typeOut 49 = .ok (.iastore, 1) := by decide +kernel
theorem dX0_typeOut_50 : decode cX0_typeOut 50 = .ok (.aload_n 0, 1) := by decide +kernel
theorem dX0_typeOut_51 : decode cX0_typeOut 51 = .ok (.invokevirtual 46, 3) := by decide +kernel
theorem dX0_typeOut_54 : decode cX0_typeOut 54 = .ok (.aload_n 0, 1) := by decide +kernel
theorem dX0_typeOut_55 : decode cX0_typeOut 55 = .ok (.getfield 13, 3) := by decide +kernel
theorem dX0_typeOut_58 : decode cX0_typeOut 58 = .ok (.iconst 2, 1) := by decide +kernel
theorem dX0_typeOut_59 : decode cX0_typeOut 59 = .ok (.iaload, 1) := by decide +kernel
theorem dX0_typeOut_60 : decode cX0_typeOut 60 = .ok (.ireturn, 1) := by decide +kernel
theorem dX0_erase_0 : decode cX0_erase 0 = .ok (.aload_n 0, 1) := by decide +kernel
theorem dX0_erase_1 : decode cX0_erase 1 = .ok (.getfield 7, 3) := by decide +kernel
theorem dX0_erase_4 : decode cX0_erase 4 = .ok (.iconst 2, 1) := by decide +kernel
theorem dX0_erase_5 : decode cX0_erase 5 = .ok (.iconst 0, 1) := by decide +kernel
theorem dX0_erase_6 : decode cX0_erase 6 = .ok (.iastore, 1) := by decide +kernel
theorem dX0_erase_7 : decode cX0_erase 7 = .ok (.aload_n 0, 1) := by decide +kernel
theorem dX0_erase_8 : decode cX0_erase 8 = .ok (.getfield 13, 3) := by decide +kernel
theorem dX0_erase_11 : decode cX0_erase 11 = .ok (.iconst 2, 1) := by decide +kernel
theorem dX0_erase_12 : decode cX0_erase 12 = .ok (.iconst 0, 1) := by decide +kernel
theorem dX0_erase_13 : decode cX0_erase 13 = .ok (.iastore, 1) := by decide +kernel
theorem dX0_erase_14 : decode cX0_erase 14 = .ok (.aload_n 0, 1) := by decide +kernel
theorem dX0_erase_15 : decode cX0_erase 15 = .ok (.invokevirtual 46, 3) := by decide +kernel
theorem dX0_erase_18 : decode cX0_erase 18 = .ok (.return_, 1) := by decide +kernel
theorem dX0_learn_0 : decode cX0_learn 0 = .ok (.aload_n 0, 1) := by decide +kernel
theorem dX0_learn_1 : decode cX0_learn 1 = .ok (.getfield 49, 3) := by decide +kernel
theorem dX0_learn_4 : decode cX0_learn 4 = .ok (.iconst 2, 1) := by decide +kernel
theorem dX0_learn_5 : decode cX0_learn 5 = .ok (.if_icmp .lt 6, 3) := by decide +kernel
theorem dX0_learn_8 : decode cX0_learn 8 = .ok (.bipush (-2), 2) := by decide +kernel
theorem dX0_learn_10 : decode cX0_learn 10 = .ok (.ireturn, 1) := by decide +kernel
theorem dX0_learn_11 : decode cX0_learn 11 = .ok (.aload_n 0, 1) := by decide +kernel
theorem dX0_learn_12 : decode cX0_learn 12 = .ok (.getfield 49, 3) := by decide +kernel
theorem dX0_learn_15 : decode cX0_learn 15 = .ok (.istore_n 1, 1) := by decide +kernel
theorem dX0_learn_16 : decode cX0_learn 16 = .ok (.aload_n 0, 1) := by decide +kernel
theorem dX0_learn_17 : decode cX0_learn 17 = .ok (.getfield 7, 3) := by decide +kernel
theorem dX0_learn_20 : decode cX0_learn 20 = .ok (.iload_n 1, 1) := by decide +kernel
theorem dX0_learn_21 : decode cX0_learn 21 = .ok (.aload_n 0, 1) := by decide +kernel
theorem dX0_learn_22 : decode cX0_learn 22 = .ok (.getfield 7, 3) := by decide +kernel
theorem dX0_learn_25 : decode cX0_learn 25 = .ok (.iconst 2, 1) := by decide +kernel
theorem dX0_learn_26 : decode cX0_learn 26 = .ok (.iaload, 1) := by decide +kernel
theorem dX0_learn_27 : decode cX0_learn 27 = .ok (.iastore, 1) := by decide +kernel
theorem dX0_learn_28 : decode cX0_learn 28 = .ok (.aload_n 0, 1) := by decide +kernel
theorem dX0_learn_29 : decode cX0_learn 29 = .ok (.getfield 13, 3) := by decide +kernel
theorem dX0_learn_32 : decode cX0_learn 32 = .ok (.iload_n 1, 1) := by decide +kernel
theorem dX0_learn_33 : decode cX0_learn 33 = .ok (.aload_n 0, 1) := by decide +kernel
theorem dX0_learn_34 : decode cX0_learn 34 = .ok (.getfield 13, 3) := by decide +kernel
theorem dX0_learn_37 : decode cX0_learn 37 = .ok (.iconst 2, 1) := by decide +kernel
theorem dX0_learn_38 : decode cX0_learn 38 = .ok (.iaload, 1) := by decide +kernel
theorem dX0_learn_39 : decode cX0_learn 39 = .ok (.iastore, 1) := by decide +kernel
theorem dX0_learn_40 : decode cX0_learn 40 = .ok (.iconst 0, 1) := by decide +kernel
theorem dX0_learn_41 : decode cX0_learn 41 = .ok (.istore_n 2, 1) := by decide +kernel
theorem dX0_learn_42 : decode cX0_learn 42 = .ok (.iload_n 2, 1) := by decide +kernel
theorem dX0_learn_43 : decode cX0_learn 43 = .ok (.bipush 6, 2) := by decide +kernel
theorem dX0_learn_45 : decode cX0_learn 45 = .ok (.if_icmp .ge 49, 3) := by decide +kernel
theorem dX0_learn_48 : decode cX0_learn 48 = .ok (.aload_n 0, 1) := by decide +kernel
theorem dX0_learn_49 : decode cX0_learn 49 = .ok (.getfield 16, 3) := by decide +kernel
theorem dX0_learn_52 : decode cX0_learn 52 = .ok (.iload_n 1, 1) := by decide +kernel
theorem dX0_learn_53 : decode cX0_learn 53 = .ok (.bipush 6, 2) := by decide +kernel
theorem dX0_learn_55 : decode cX0_learn 55 = .ok (.imul, 1) := by decide +kernel
theorem dX0_learn_56 : decode cX0_learn 56 = .ok (.iload_n 2, 1) := by decide +kernel
theorem dX0_learn_57 : decode cX0_learn 57 = .ok (.iadd, 1) := by decide +kernel
theorem dX0_learn_58 : decode cX0_learn 58 = .ok (.aload_n 0, 1) := by decide +kernel
theorem dX0_learn_59 : decode cX0_learn 59 = .ok (.getfield 16, 3) := by decide +kernel
theorem dX0_learn_62 : decode cX0_learn 62 = .ok (.bipush 12, 2) := by decide +kernel
theorem dX0_learn_64 : decode cX0_learn 64 = .ok (.iload_n 2, 1) := by decide +kernel
theorem dX0_learn_65 : decode cX0_learn 65 = .ok (.iadd, 1) := by decide +kernel
theorem dX0_learn_66 : decode cX0_learn 66 = .ok (.iaload, 1) := by decide +kernel
theorem dX0_learn_67 : decode cX0_learn 67 = .ok (.iastore, 1) := by decide +kernel
theorem dX0_learn_68 : decode cX0_learn 68 = .ok (.aload_n 0, 1) := by decide +kernel
theorem dX0_learn_69 : decode cX0_learn 69 = .ok (.getfield 19, 3) := by decide +kernel
theorem dX0_learn_72 : decode cX0_learn 72 = .ok (.iload_n 1, 1) := by decide +kernel
theorem dX0_learn_73 : decode cX0_learn 73 = .ok (.bipush 6, 2) := by decide +kernel
theorem dX0_learn_75 : decode cX0_learn 75 = .ok (.imul, 1) := by decide +kernel
theorem dX0_learn_76 : decode cX0_learn 76 = .ok (.iload_n 2, 1) := by decide +kernel
theorem dX0_learn_77 : decode cX0_learn 77 = .ok (.iadd, 1) := by decide +kernel
theorem dX0_learn_78 : decode cX0_learn 78 = .ok (.aload_n 0, 1) := by decide +kernel
theorem dX0_learn_79 : decode cX0_learn 79 = .ok (.getfield 19, 3) := by decide +kernel
theorem dX0_learn_82 : decode cX0_learn 82 = .ok (.bipush 12, 2) := by decide +kernel
theorem dX0_learn_84 : decode cX0_learn 84 = .ok (.iload_n 2, 1) := by decide +kernel
theorem dX0_learn_85 : decode cX0_learn 85 = .ok (.iadd, 1) := by decide +kernel
theorem dX0_learn_86 : decode cX0_learn 86 = .ok (.iaload, 1) := by decide +kernel
theorem dX0_learn_87 : decode cX0_learn 87 = .ok (.iastore, 1) := by decide +kernel
theorem dX0_learn_88 : decode cX0_learn 88 = .ok (.iinc 2 1, 3) := by decide +kernel
theorem dX0_learn_91 : decode cX0_learn 91 = .ok (.goto (-49), 3) := by decide +kernel
theorem dX0_learn_94 : decode cX0_learn 94 = .ok (.aload_n 0, 1) := by decide +kernel
theorem dX0_learn_95 : decode cX0_learn 95 = .ok (.dup, 1) := by decide +kernel
theorem dX0_learn_96 : decode cX0_learn 96 = .ok (.getfield 49, 3) := by decide +kernel
theorem dX0_learn_99 : decode cX0_learn 99 = .ok (.iconst 1, 1) := by decide +kernel
theorem dX0_learn_100 : decode cX0_learn 100 = .ok (.iadd, 1) := by decide +kernel
theorem dX0_learn_101 : decode cX0_learn 101 = .ok (.putfield 49, 3) := by decide +kernel
theorem dX0_learn_104 : decode cX0_learn 104 = .ok (.aload_n 0, 1) := by decide +kernel
theorem dX0_learn_105 : decode cX0_learn 105 = .ok (.invokevirtual 52, 3) := by decide +kernel
theorem dX0_learn_108 : decode cX0_learn 108 = .ok (.aload_n 0, 1) := by decide +kernel
theorem dX0_learn_109 : decode cX0_learn 109 = .ok (.getfield 49, 3) := by decide +kernel
theorem dX0_learn_112 : decode cX0_learn 112 = .ok (.ireturn, 1) := by decide +kernel
theorem dX0_relearned_0 : decode cX0_relearned 0 = .ok (.aload_n 0, 1) := by decide +kernel
theorem dX0_relearned_1 : decode cX0_relearned 1 = .ok (.iconst 0, 1) := by decide +kernel
theorem dX0_relearned_2 : decode cX0_relearned 2 = .ok (.putfield 43, 3) := by decide +kernel
theorem dX0_relearned_5 : decode cX0_relearned 5 = .ok (.aload_n 0, 1) := by decide +kernel
theorem dX0_relearned_6 : decode cX0_relearned 6 = .ok (.iconst (-1), 1) := by decide +kernel
theorem dX0_relearned_7 : decode cX0_relearned 7 = .ok (.putfield 35, 3) := by decide +kernel
theorem dX0_relearned_10 : decode cX0_relearned 10 = .ok (.return_, 1) := by decide +kernel
theorem dX0_forget_0 : decode cX0_forget 0 = .ok (.aload_n 0, 1) := by decide +kernel
theorem dX0_forget_1 : decode cX0_forget 1 = .ok (.getfield 49, 3) := by decide +kernel
theorem dX0_forget_4 : decode cX0_forget 4 = .ok (.ifCond .ne 6, 3) := by decide +kernel
theorem dX0_forget_7 : decode cX0_forget 7 = .ok (.bipush (-3), 2) := by decide +kernel
theorem dX0_forget_9 : decode cX0_forget 9 = .ok (.ireturn, 1) := by decide +kernel
theorem dX0_forget_10 : decode cX0_forget 10 = .ok (.aload_n 0, 1) := by decide +kernel
theorem dX0_forget_11 : decode cX0_forget 11 = .ok (.dup, 1) := by decide +kernel
theorem dX0_forget_12 : decode cX0_forget 12 = .ok (.getfield 49, 3) := by decide +kernel
theorem dX0_forget_15 : decode cX0_forget 15 = .ok (.iconst 1, 1) := by decide +kernel
theorem dX0_forget_16 : decode cX0_forget 16 = .ok (.isub, 1) := by decide +kernel
theorem dX0_forget_17 : decode cX0_forget 17 = .ok (.putfield 49, 3) := by decide +kernel
theorem dX0_forget_20 : decode cX0_forget 20 = .ok (.aload_n 0, 1) := by decide +kernel
theorem dX0_forget_21 : decode cX0_forget 21 = .ok (.invokevirtual 52, 3) := by decide +kernel
theorem dX0_forget_24 : decode cX0_forget 24 = .ok (.aload_n 0, 1) := by decide +kernel
theorem dX0_forget_25 : decode cX0_forget 25 = .ok (.getfield 49, 3) := by decide +kernel
theorem dX0_forget_28 : decode cX0_forget 28 = .ok (.ireturn, 1) := by decide +kernel
theorem dX0_least_0 : decode cX0_least 0 = .ok (.aload_n 0, 1) := by decide +kernel
theorem dX0_least_1 : decode cX0_least 1 = .ok (.invokevirtual 105, 3) := by decide +kernel
theorem dX0_least_4 : decode cX0_least 4 = .ok (.istore_n 1, 1) := by decide +kernel
theorem dX0_least_5 : decode cX0_least 5 = .ok (.iload_n 1, 1) := by decide +kernel
theorem dX0_least_6 : decode cX0_least 6 = .ok (.ifCond .ne 8, 3) := by decide +kernel
theorem dX0_least_9 : decode cX0_least 9 = .ok (.bipush (-3), 2) := by decide +kernel
theorem dX0_least_11 : decode cX0_least 11 = .ok (.goto 4, 3) := by decide +kernel
theorem dX0_least_14 : decode cX0_least 14 = .ok (.iload_n 1, 1) := by decide +kernel
theorem dX0_least_15 : decode cX0_least 15 = .ok (.ireturn, 1) := by decide +kernel
theorem dX0_leastCount_0 : decode cX0_leastCount 0 = .ok (.aload_n 0, 1) := by decide +kernel
theorem dX0_leastCount_1 : decode cX0_leastCount 1 = .ok (.iconst 0, 1) := by decide +kernel
theorem dX0_leastCount_2 : decode cX0_leastCount 2 = .ok (.invokevirtual 102, 3) := by decide +kernel
theorem dX0_leastCount_5 : decode cX0_leastCount 5 = .ok (.iconst 1, 1) := by decide +kernel
theorem dX0_leastCount_6 : decode cX0_leastCount 6 = .ok (.istore_n 1, 1) := by decide +kernel
theorem dX0_leastCount_7 : decode cX0_leastCount 7 = .ok (.iload_n 1, 1) := by decide +kernel
theorem dX0_leastCount_8 : decode cX0_leastCount 8 = .ok (.iconst 3, 1) := by decide +kernel
theorem dX0_leastCount_9 : decode cX0_leastCount 9 = .ok (.if_icmp .gt 24, 3) := by decide +kernel
theorem dX0_leastCount_12 : decode cX0_leastCount 12 = .ok (.aload_n 0, 1) := by decide +kernel
theorem dX0_leastCount_13 : decode cX0_leastCount 13 = .ok (.getfield 26, 3) := by decide +kernel
theorem dX0_leastCount_16 : decode cX0_leastCount 16 = .ok (.iload_n 1, 1) := by decide +kernel
theorem dX0_leastCount_17 : decode cX0_leastCount 17 = .ok (.sipush 343, 3) := by decide +kernel
theorem dX0_leastCount_20 : decode cX0_leastCount 20 = .ok (.imul, 1) := by decide +kernel
theorem dX0_leastCount_21 : decode cX0_leastCount 21 = .ok (.iaload, 1) := by decide +kernel
theorem dX0_leastCount_22 : decode cX0_leastCount 22 = .ok (.ifCond .le 5, 3) := by decide +kernel
theorem dX0_leastCount_25 : decode cX0_leastCount 25 = .ok (.iload_n 1, 1) := by decide +kernel
theorem dX0_leastCount_26 : decode cX0_leastCount 26 = .ok (.ireturn, 1) := by decide +kernel
theorem dX0_leastCount_27 : decode cX0_leastCount 27 = .ok (.iinc 1 1, 3) := by decide +kernel
theorem dX0_leastCount_30 : decode cX0_leastCount 30 = .ok (.goto (-23), 3) := by decide +kernel
theorem dX0_leastCount_33 : decode cX0_leastCount 33 = .ok (.iconst 0, 1) := by decide +kernel
theorem dX0_leastCount_34 : decode cX0_leastCount 34 = .ok (.ireturn, 1) := by decide +kernel
theorem dX0_count_0 : decode cX0_count 0 = .ok (.aload_n 0, 1) := by decide +kernel
theorem dX0_count_1 : decode cX0_count 1 = .ok (.getfield 43, 3) := by decide +kernel
theorem dX0_count_4 : decode cX0_count 4 = .ok (.ifCond .ne 29, 3) := by decide +kernel
theorem dX0_count_7 : decode cX0_count 7 = .ok (.iconst 0, 1) := by decide +kernel
theorem dX0_count_8 : decode cX0_count 8 = .ok (.istore_n 2, 1) := by decide +kernel
theorem dX0_count_9 : decode cX0_count 9 = .ok (.iload_n 2, 1) := by decide +kernel
theorem dX0_count_10 : decode cX0_count 10 = .ok (.aload_n 0, 1) := by decide +kernel
theorem dX0_count_11 : decode cX0_count 11 = .ok (.getfield 49, 3) := by decide +kernel
theorem dX0_count_14 : decode cX0_count 14 = .ok (.if_icmp .ge 14, 3) := by decide +kernel
theorem dX0_count_17 : decode cX0_count 17 = .ok (.aload_n 0, 1) := by decide +kernel
theorem dX0_count_18 : decode cX0_count 18 = .ok (.iload_n 2, 1) := by decide +kernel
theorem dX0_count_19 : decode cX0_count 19 = .ok (.invokevirtual 88, 3) := by decide +kernel
theorem dX0_count_22 : decode cX0_count 22 = .ok (.iinc 2 1, 3) := by decide +kernel
theorem dX0_count_25 : decode cX0_count 25 = .ok (.goto (-16), 3) := by decide +kernel
theorem dX0_count_28 : decode cX0_count 28 = .ok (.aload_n 0, 1) := by decide +kernel
theorem dX0_count_29 : decode cX0_count 29 = .ok (.iconst 1, 1) := by decide +kernel
theorem dX0_count_30 : decode cX0_count 30 = .ok (.putfield 43, 3) := by decide +kernel
theorem dX0_count_33 : decode cX0_count 33 = .ok (.iload_n 1, 1) := by decide +kernel
theorem dX0_count_34 : decode cX0_count 34 = .ok (.iconst 2, 1) := by decide +kernel
theorem dX0_count_35 : decode cX0_count 35 = .ok (.if_icmp .ne 20, 3) := by decide +kernel
theorem dX0_count_38 : decode cX0_count 38 = .ok (.aload_n 0, 1) := by decide +kernel
theorem dX0_count_39 : decode cX0_count 39 = .ok (.getfield 39, 3) := by decide +kernel
theorem dX0_count_42 : decode cX0_count 42 = .ok (.ifCond .ne 13, 3) := by decide +kernel
theorem dX0_count_45 : decode cX0_count 45 = .ok (.aload_n 0, 1) := by decide +kernel
theorem dX0_count_46 : decode cX0_count 46 = .ok (.iconst 2, 1) := by decide +kernel
theorem dX0_count_47 : decode cX0_count 47 = .ok (.invokevirtual 88, 3) := by decide +kernel
theorem dX0_count_50 : decode cX0_count 50 = .ok (.aload_n 0, 1) := by decide +kernel
theorem dX0_count_51 : decode cX0_count 51 = .ok (.iconst 1, 1) := by decide +kernel
theorem dX0_count_52 : decode cX0_count 52 = .ok (.putfield 39, 3) := by decide +kernel
theorem dX0_count_55 : decode cX0_count 55 = .ok (.aload_n 0, 1) := by decide +kernel
theorem dX0_count_56 : decode cX0_count 56 = .ok (.getfield 35, 3) := by decide +kernel
theorem dX0_count_59 : decode cX0_count 59 = .ok (.iload_n 1, 1) := by decide +kernel
theorem dX0_count_60 : decode cX0_count 60 = .ok (.if_icmp .ne 4, 3) := by decide +kernel
theorem dX0_count_63 : decode cX0_count 63 = .ok (.return_, 1) := by decide +kernel
theorem dX0_count_64 : decode cX0_count 64 = .ok (.aload_n 0, 1) := by decide +kernel
theorem dX0_count_65 : decode cX0_count 65 = .ok (.iload_n 1, 1) := by decide +kernel
theorem dX0_count_66 : decode cX0_count 66 = .ok (.putfield 35, 3) := by decide +kernel
theorem dX0_count_69 : decode cX0_count 69 = .ok (.aload_n 0, 1) := by decide +kernel
theorem dX0_count_70 : decode cX0_count 70 = .ok (.iload_n 1, 1) := by decide +kernel
theorem dX0_count_71 : decode cX0_count 71 = .ok (.invokevirtual 92, 3) := by decide +kernel
theorem dX0_count_74 : decode cX0_count 74 = .ok (.istore_n 2, 1) := by decide +kernel
theorem dX0_count_75 : decode cX0_count 75 = .ok (.iconst 0, 1) := by decide +kernel
theorem dX0_count_76 : decode cX0_count 76 = .ok (.istore_n 3, 1) := by decide +kernel
theorem dX0_count_77 : decode cX0_count 77 = .ok (.iload_n 3, 1) := by decide +kernel
theorem dX0_count_78 : decode cX0_count 78 = .ok (.sipush 343, 3) := by decide +kernel
theorem dX0_count_81 : decode cX0_count 81 = .ok (.if_icmp .ge 25, 3) := by decide +kernel
theorem dX0_count_84 : decode cX0_count 84 = .ok (.aload_n 0, 1) := by decide +kernel
theorem dX0_count_85 : decode cX0_count 85 = .ok (.getfield 26, 3) := by decide +kernel
theorem dX0_count_88 : decode cX0_count 88 = .ok (.iload_n 3, 1) := by decide +kernel
theorem dX0_count_89 : decode cX0_count 89 = .ok (.iload_n 3, 1) := by decide +kernel
theorem dX0_count_90 : decode cX0_count 90 = .ok (.iload_n 2, 1) := by decide +kernel
theorem dX0_count_91 : decode cX0_count 91 = .ok (.if_icmp .ne 7, 3) := by decide +kernel
theorem dX0_count_94 : decode cX0_count 94 = .ok (.iconst 1, 1) := by decide +kernel
theorem dX0_count_95 : decode cX0_count 95 = .ok (.goto 4, 3) := by decide +kernel
theorem dX0_count_98 : decode cX0_count 98 = .ok (.iconst 0, 1) := by decide +kernel
theorem dX0_count_99 : decode cX0_count 99 = .ok (.iastore, 1) := by decide +kernel
theorem dX0_count_100 : decode cX0_count 100 = .ok (.iinc 3 1, 3) := by decide +kernel
theorem dX0_count_103 : decode cX0_count 103 = .ok (.goto (-26), 3) := by decide +kernel
theorem dX0_count_106 : decode cX0_count 106 = .ok (.iconst 1, 1) := by decide +kernel
theorem dX0_count_107 : decode cX0_count 107 = .ok (.istore_n 3, 1) := by decide +kernel
theorem dX0_count_108 : decode cX0_count 108 = .ok (.iload_n 3, 1) := by decide +kernel
theorem dX0_count_109 : decode cX0_count 109 = .ok (.iconst 3, 1) := by decide +kernel
theorem dX0_count_110 : decode cX0_count 110 = .ok (.if_icmp .gt 65, 3) := by decide +kernel
theorem dX0_count_113 : decode cX0_count 113 = .ok (.iconst 0, 1) := by decide +kernel
end
section
set_option maxRecDepth 100000
theorem dX0_count_114 : decode cX0_count 114 = .ok (.istore 4, 2) := by decide +kernel
theorem dX0_count_116 : decode cX0_count 116 = .ok (.iload 4, 2) := by decide +kernel
theorem dX0_count_118 : decode cX0_count 118 = .ok (.sipush 343, 3) := by decide +kernel
theorem dX0_count_121 : decode cX0_count 121 = .ok (.if_icmp .ge 48, 3) := by decide +kernel
theorem dX0_count_124 : decode cX0_count 124 = .ok (.aload_n 0, 1) := by decide +kernel
theorem dX0_count_125 : decode cX0_count 125 = .ok (.iload 4, 2) := by decide +kernel
theorem dX0_count_127 : decode cX0_count 127 = .ok (.iload_n 2, 1) := by decide +kernel
theorem dX0_count_128 : decode cX0_count 128 = .ok (.invokevirtual 95, 3) := by decide +kernel
theorem dX0_count_131 : decode cX0_count 131 = .ok (.istore 5, 2) := by decide +kernel
theorem dX0_count_133 : decode cX0_count 133 = .ok (.aload_n 0, 1) := by decide +kernel
theorem dX0_count_134 : decode cX0_count 134 = .ok (.getfield 26, 3) := by decide +kernel
theorem dX0_count_137 : decode cX0_count 137 = .ok (.iload_n 3, 1) := by decide +kernel
theorem dX0_count_138 : decode cX0_count 138 = .ok (.sipush 343, 3) := by decide +kernel
theorem dX0_count_141 : decode cX0_count 141 = .ok (.imul, 1) := by decide +kernel
theorem dX0_count_142 : decode cX0_count 142 = .ok (.iload 4, 2) := by decide +kernel
theorem dX0_count_144 : decode cX0_count 144 = .ok (.iadd, 1) := by decide +kernel
theorem dX0_count_145 : decode cX0_count 145 = .ok (.iload 5, 2) := by decide +kernel
theorem dX0_count_147 : decode cX0_count 147 = .ok (.ifCond .eq 14, 3) := by decide +kernel
theorem dX0_count_150 : decode cX0_count 150 = .ok (.aload_n 0, 1) := by decide +kernel
theorem dX0_count_151 : decode cX0_count 151 = .ok (.iload 4, 2) := by decide +kernel
theorem dX0_count_153 : decode cX0_count 153 = .ok (.iload_n 3, 1) := by decide +kernel
theorem dX0_count_154 : decode cX0_count 154 = .ok (.iload_n 1, 1) := by decide +kernel
theorem dX0_count_155 : decode cX0_count 155 = .ok (.invokevirtual 99, 3) := by decide +kernel
theorem dX0_count_158 : decode cX0_count 158 = .ok (.goto 4, 3) := by decide +kernel
theorem dX0_count_161 : decode cX0_count 161 = .ok (.iconst 0, 1) := by decide +kernel
theorem dX0_count_162 : decode cX0_count 162 = .ok (.iastore, 1) := by decide +kernel
theorem dX0_count_163 : decode cX0_count 163 = .ok (.iinc 4 1, 3) := by decide +kernel
theorem dX0_count_166 : decode cX0_count 166 = .ok (.goto (-50), 3) := by decide +kernel
theorem dX0_count_169 : decode cX0_count 169 = .ok (.iinc 3 1, 3) := by decide +kernel
theorem dX0_count_172 : decode cX0_count 172 = .ok (.goto (-64), 3) := by decide +kernel
theorem dX0_count_175 : decode cX0_count 175 = .ok (.return_, 1) := by decide +kernel
theorem dX0_followAll_0 : decode cX0_followAll 0 = .ok (.iconst 0, 1) := by decide +kernel
theorem dX0_followAll_1 : decode cX0_followAll 1 = .ok (.istore_n 2, 1) := by decide +kernel
theorem dX0_followAll_2 : decode cX0_followAll 2 = .ok (.iload_n 2, 1) := by decide +kernel
theorem dX0_followAll_3 : decode cX0_followAll 3 = .ok (.sipush 200, 3) := by decide +kernel
theorem dX0_followAll_6 : decode cX0_followAll 6 = .ok (.if_icmp .ge 15, 3) := by decide +kernel
theorem dX0_followAll_9 : decode cX0_followAll 9 = .ok (.aload_n 0, 1) := by decide +kernel
theorem dX0_followAll_10 : decode cX0_followAll 10 = .ok (.iload_n 1, 1) := by decide +kernel
theorem dX0_followAll_11 : decode cX0_followAll 11 = .ok (.iload_n 2, 1) := by decide +kernel
theorem dX0_followAll_12 : decode cX0_followAll 12 = .ok (.invokevirtual 77, 3) := by decide +kernel
theorem dX0_followAll_15 : decode cX0_followAll 15 = .ok (.iinc 2 1, 3) := by decide +kernel
theorem dX0_followAll_18 : decode cX0_followAll 18 = .ok (.goto (-16), 3) := by decide +kernel
theorem dX0_followAll_21 : decode cX0_followAll 21 = .ok (.return_, 1) := by decide +kernel
theorem dX0_followAtom_0 : decode cX0_followAtom 0 = .ok (.aload_n 0, 1) := by decide +kernel
theorem dX0_followAtom_1 : decode cX0_followAtom 1 = .ok (.iload_n 1, 1) := by decide +kernel
theorem dX0_followAtom_2 : decode cX0_followAtom 2 = .ok (.iload_n 2, 1) := by decide +kernel
theorem dX0_followAtom_3 : decode cX0_followAtom 3 = .ok (.invokevirtual 70, 3) := by decide +kernel
theorem dX0_followAtom_6 : decode cX0_followAtom 6 = .ok (.istore_n 3, 1) := by decide +kernel
theorem dX0_followAtom_7 : decode cX0_followAtom 7 = .ok (.iconst 0, 1) := by decide +kernel
theorem dX0_followAtom_8 : decode cX0_followAtom 8 = .ok (.istore 4, 2) := by decide +kernel
theorem dX0_followAtom_10 : decode cX0_followAtom 10 = .ok (.iload 4, 2) := by decide +kernel
theorem dX0_followAtom_12 : decode cX0_followAtom 12 = .ok (.bipush 7, 2) := by decide +kernel
theorem dX0_followAtom_14 : decode cX0_followAtom 14 = .ok (.if_icmp .ge 79, 3) := by decide +kernel
theorem dX0_followAtom_17 : decode cX0_followAtom 17 = .ok (.iload 4, 2) := by decide +kernel
theorem dX0_followAtom_19 : decode cX0_followAtom 19 = .ok (.iload_n 3, 1) := by decide +kernel
theorem dX0_followAtom_20 : decode cX0_followAtom 20 = .ok (.iadd, 1) := by decide +kernel
theorem dX0_followAtom_21 : decode cX0_followAtom 21 = .ok (.istore 5, 2) := by decide +kernel
theorem dX0_followAtom_23 : decode cX0_followAtom 23 = .ok (.iload_n 3, 1) := by decide +kernel
theorem dX0_followAtom_24 : decode cX0_followAtom 24 = .ok (.ifCond .le 30, 3) := by decide +kernel
theorem dX0_followAtom_27 : decode cX0_followAtom 27 = .ok (.iload 5, 2) := by decide +kernel
theorem dX0_followAtom_29 : decode cX0_followAtom 29 = .ok (.aload_n 0, 1) := by decide +kernel
theorem dX0_followAtom_30 : decode cX0_followAtom 30 = .ok (.getfield 13, 3) := by decide +kernel
theorem dX0_followAtom_33 : decode cX0_followAtom 33 = .ok (.iload_n 1, 1) := by decide +kernel
theorem dX0_followAtom_34 : decode cX0_followAtom 34 = .ok (.iaload, 1) := by decide +kernel
theorem dX0_followAtom_35 : decode cX0_followAtom 35 = .ok (.if_icmp .gt 19, 3) := by decide +kernel
theorem dX0_followAtom_38 : decode cX0_followAtom 38 = .ok (.aload_n 0, 1) := by decide +kernel
theorem dX0_followAtom_39 : decode cX0_followAtom 39 = .ok (.iload_n 1, 1) := by decide +kernel
theorem dX0_followAtom_40 : decode cX0_followAtom 40 = .ok (.iload_n 2, 1) := by decide +kernel
theorem dX0_followAtom_41 : decode cX0_followAtom 41 = .ok (.iload 4, 2) := by decide +kernel
theorem dX0_followAtom_43 : decode cX0_followAtom 43 = .ok (.iload_n 3, 1) := by decide +kernel
theorem dX0_followAtom_44 : decode cX0_followAtom 44 = .ok (.invokevirtual 73, 3) := by decide +kernel
theorem dX0_followAtom_47 : decode cX0_followAtom 47 = .ok (.ifCond .eq 7, 3) := by decide +kernel
theorem dX0_followAtom_50 : decode cX0_followAtom 50 = .ok (.iconst 1, 1) := by decide +kernel
theorem dX0_followAtom_51 : decode cX0_followAtom 51 = .ok (.goto 4, 3) := by decide +kernel
theorem dX0_followAtom_54 : decode cX0_followAtom 54 = .ok (.iconst 0, 1) := by decide +kernel
theorem dX0_followAtom_55 : decode cX0_followAtom 55 = .ok (.istore 6, 2) := by decide +kernel
theorem dX0_followAtom_57 : decode cX0_followAtom 57 = .ok (.aload_n 0, 1) := by decide +kernel
theorem dX0_followAtom_58 : decode cX0_followAtom 58 = .ok (.getfield 22, 3) := by decide +kernel
theorem dX0_followAtom_61 : decode cX0_followAtom 61 = .ok (.iload_n 1, 1) := by decide +kernel
theorem dX0_followAtom_62 : decode cX0_followAtom 62 = .ok (.sipush 200, 3) := by decide +kernel
theorem dX0_followAtom_65 : decode cX0_followAtom 65 = .ok (.imul, 1) := by decide +kernel
theorem dX0_followAtom_66 : decode cX0_followAtom 66 = .ok (.iload_n 2, 1) := by decide +kernel
theorem dX0_followAtom_67 : decode cX0_followAtom 67 = .ok (.iadd, 1) := by decide +kernel
theorem dX0_followAtom_68 : decode cX0_followAtom 68 = .ok (.bipush 7, 2) := by decide +kernel
theorem dX0_followAtom_70 : decode cX0_followAtom 70 = .ok (.imul, 1) := by decide +kernel
theorem dX0_followAtom_71 : decode cX0_followAtom 71 = .ok (.iload 4, 2) := by decide +kernel
theorem dX0_followAtom_73 : decode cX0_followAtom 73 = .ok (.iadd, 1) := by decide +kernel
theorem dX0_followAtom_74 : decode cX0_followAtom 74 = .ok (.iload 6, 2) := by decide +kernel
theorem dX0_followAtom_76 : decode cX0_followAtom 76 = .ok (.ifCond .eq 8, 3) := by decide +kernel
theorem dX0_followAtom_79 : decode cX0_followAtom 79 = .ok (.iload 5, 2) := by decide +kernel
theorem dX0_followAtom_81 : decode cX0_followAtom 81 = .ok (.goto 4, 3) := by decide +kernel
theorem dX0_followAtom_84 : decode cX0_followAtom 84 = .ok (.iconst (-1), 1) := by decide +kernel
theorem dX0_followAtom_85 : decode cX0_followAtom 85 = .ok (.i2b, 1) := by decide +kernel
theorem dX0_followAtom_86 : decode cX0_followAtom 86 = .ok (.bastore, 1) := by decide +kernel
theorem dX0_followAtom_87 : decode cX0_followAtom 87 = .ok (.iinc 4 1, 3) := by decide +kernel
theorem dX0_followAtom_90 : decode cX0_followAtom 90 = .ok (.goto (-80), 3) := by decide +kernel
theorem dX0_followAtom_93 : decode cX0_followAtom 93 = .ok (.return_, 1) := by decide +kernel
theorem dX0_sizeOf_0 : decode cX0_sizeOf 0 = .ok (.iload_n 2, 1) := by decide +kernel
theorem dX0_sizeOf_1 : decode cX0_sizeOf 1 = .ok (.iconst 4, 1) := by decide +kernel
theorem dX0_sizeOf_2 : decode cX0_sizeOf 2 = .ok (.if_icmp .ge 5, 3) := by decide +kernel
theorem dX0_sizeOf_5 : decode cX0_sizeOf 5 = .ok (.iconst 1, 1) := by decide +kernel
theorem dX0_sizeOf_6 : decode cX0_sizeOf 6 = .ok (.ireturn, 1) := by decide +kernel
theorem dX0_sizeOf_7 : decode cX0_sizeOf 7 = .ok (.iload_n 2, 1) := by decide +kernel
theorem dX0_sizeOf_8 : decode cX0_sizeOf 8 = .ok (.invokestatic 55, 3) := by decide +kernel
theorem dX0_sizeOf_11 : decode cX0_sizeOf 11 = .ok (.istore_n 3, 1) := by decide +kernel
theorem dX0_sizeOf_12 : decode cX0_sizeOf 12 = .ok (.aload_n 0, 1) := by decide +kernel
theorem dX0_sizeOf_13 : decode cX0_sizeOf 13 = .ok (.iload_n 1, 1) := by decide +kernel
theorem dX0_sizeOf_14 : decode cX0_sizeOf 14 = .ok (.iload_n 3, 1) := by decide +kernel
theorem dX0_sizeOf_15 : decode cX0_sizeOf 15 = .ok (.invokevirtual 59, 3) := by decide +kernel
theorem dX0_sizeOf_18 : decode cX0_sizeOf 18 = .ok (.istore 4, 2) := by decide +kernel
theorem dX0_sizeOf_20 : decode cX0_sizeOf 20 = .ok (.iload_n 2, 1) := by decide +kernel
theorem dX0_sizeOf_21 : decode cX0_sizeOf 21 = .ok (.invokestatic 63, 3) := by decide +kernel
theorem dX0_sizeOf_24 : decode cX0_sizeOf 24 = .ok (.istore 5, 2) := by decide +kernel
theorem dX0_sizeOf_26 : decode cX0_sizeOf 26 = .ok (.aload_n 0, 1) := by decide +kernel
theorem dX0_sizeOf_27 : decode cX0_sizeOf 27 = .ok (.iload_n 1, 1) := by decide +kernel
theorem dX0_sizeOf_28 : decode cX0_sizeOf 28 = .ok (.iload 5, 2) := by decide +kernel
theorem dX0_sizeOf_30 : decode cX0_sizeOf 30 = .ok (.invokevirtual 59, 3) := by decide +kernel
theorem dX0_sizeOf_33 : decode cX0_sizeOf 33 = .ok (.istore 6, 2) := by decide +kernel
theorem dX0_sizeOf_35 : decode cX0_sizeOf 35 = .ok (.iload 4, 2) := by decide +kernel
theorem dX0_sizeOf_37 : decode cX0_sizeOf 37 = .ok (.ifCond .lt 18, 3) := by decide +kernel
theorem dX0_sizeOf_40 : decode cX0_sizeOf 40 = .ok (.iload 6, 2) := by decide +kernel
theorem dX0_sizeOf_42 : decode cX0_sizeOf 42 = .ok (.iload 4, 2) := by decide +kernel
theorem dX0_sizeOf_44 : decode cX0_sizeOf 44 = .ok (.if_icmp .le 11, 3) := by decide +kernel
theorem dX0_sizeOf_47 : decode cX0_sizeOf 47 = .ok (.iload 6, 2) := by decide +kernel
theorem dX0_sizeOf_49 : decode cX0_sizeOf 49 = .ok (.iload 4, 2) := by decide +kernel
theorem dX0_sizeOf_51 : decode cX0_sizeOf 51 = .ok (.isub, 1) := by decide +kernel
theorem dX0_sizeOf_52 : decode cX0_sizeOf 52 = .ok (.goto 4, 3) := by decide +kernel
theorem dX0_sizeOf_55 : decode cX0_sizeOf 55 = .ok (.iconst 0, 1) := by decide +kernel
theorem dX0_sizeOf_56 : decode cX0_sizeOf 56 = .ok (.ireturn, 1) := by decide +kernel
theorem dX0_firstPosition_0 : decode cX0_firstPosition 0 = .ok (.iload_n 0, 1) := by decide +kernel
theorem dX0_firstPosition_1 : decode cX0_firstPosition 1 = .ok (.iconst 4, 1) := by decide +kernel
theorem dX0_firstPosition_2 : decode cX0_firstPosition 2 = .ok (.isub, 1) := by decide +kernel
theorem dX0_firstPosition_3 : decode cX0_firstPosition 3 = .ok (.bipush 14, 2) := by decide +kernel
theorem dX0_firstPosition_5 : decode cX0_firstPosition 5 = .ok (.idiv, 1) := by decide +kernel
theorem dX0_firstPosition_6 : decode cX0_firstPosition 6 = .ok (.ireturn, 1) := by decide +kernel
theorem dX0_placeOf_0 : decode cX0_placeOf 0 = .ok (.iload_n 2, 1) := by decide +kernel
theorem dX0_placeOf_1 : decode cX0_placeOf 1 = .ok (.bipush 7, 2) := by decide +kernel
theorem dX0_placeOf_3 : decode cX0_placeOf 3 = .ok (.if_icmp .ge 7, 3) := by decide +kernel
theorem dX0_placeOf_6 : decode cX0_placeOf 6 = .ok (.iload_n 2, 1) := by decide +kernel
theorem dX0_placeOf_7 : decode cX0_placeOf 7 = .ok (.goto 7, 3) := by decide +kernel
theorem dX0_placeOf_10 : decode cX0_placeOf 10 = .ok (.iload_n 2, 1) := by decide +kernel
theorem dX0_placeOf_11 : decode cX0_placeOf 11 = .ok (.bipush 7, 2) := by decide +kernel
theorem dX0_placeOf_13 : decode cX0_placeOf 13 = .ok (.isub, 1) := by decide +kernel
theorem dX0_placeOf_14 : decode cX0_placeOf 14 = .ok (.istore_n 3, 1) := by decide +kernel
theorem dX0_placeOf_15 : decode cX0_placeOf 15 = .ok (.aload_n 0, 1) := by decide +kernel
theorem dX0_placeOf_16 : decode cX0_placeOf 16 = .ok (.getfield 7, 3) := by decide +kernel
theorem dX0_placeOf_19 : decode cX0_placeOf 19 = .ok (.iload_n 1, 1) := by decide +kernel
theorem dX0_placeOf_20 : decode cX0_placeOf 20 = .ok (.iaload, 1) := by decide +kernel
theorem dX0_placeOf_21 : decode cX0_placeOf 21 = .ok (.istore 4, 2) := by decide +kernel
theorem dX0_placeOf_23 : decode cX0_placeOf 23 = .ok (.iload_n 3, 1) := by decide +kernel
theorem dX0_placeOf_24 : decode cX0_placeOf 24 = .ok (.iload 4, 2) := by decide +kernel
theorem dX0_placeOf_26 : decode cX0_placeOf 26 = .ok (.if_icmp .le 5, 3) := by decide +kernel
theorem dX0_placeOf_29 : decode cX0_placeOf 29 = .ok (.iconst (-1), 1) := by decide +kernel
theorem dX0_placeOf_30 : decode cX0_placeOf 30 = .ok (.ireturn, 1) := by decide +kernel
theorem dX0_placeOf_31 : decode cX0_placeOf 31 = .ok (.iload_n 2, 1) := by decide +kernel
theorem dX0_placeOf_32 : decode cX0_placeOf 32 = .ok (.bipush 7, 2) := by decide +kernel
theorem dX0_placeOf_34 : decode cX0_placeOf 34 = .ok (.if_icmp .ge 7, 3) := by decide +kernel
theorem dX0_placeOf_37 : decode cX0_placeOf 37 = .ok (.iload_n 3, 1) := by decide +kernel
theorem dX0_placeOf_38 : decode cX0_placeOf 38 = .ok (.goto 7, 3) := by decide +kernel
theorem dX0_placeOf_41 : decode cX0_placeOf 41 = .ok (.iload 4, 2) := by decide +kernel
theorem dX0_placeOf_43 : decode cX0_placeOf 43 = .ok (.iload_n 3, 1) := by decide +kernel
theorem dX0_placeOf_44 : decode cX0_placeOf 44 = .ok (.isub, 1) := by decide +kernel
theorem dX0_placeOf_45 : decode cX0_placeOf 45 = .ok (.ireturn, 1) := by decide +kernel
theorem dX0_secondPosition_0 : decode cX0_secondPosition 0 = .ok (.iload_n 0, 1) := by decide +kernel
theorem dX0_secondPosition_1 : decode cX0_secondPosition 1 = .ok (.iconst 4, 1) := by decide +kernel
theorem dX0_secondPosition_2 : decode cX0_secondPosition 2 = .ok (.isub, 1) := by decide +kernel
theorem dX0_secondPosition_3 : decode cX0_secondPosition 3 = .ok (.bipush 14, 2) := by decide +kernel
theorem dX0_secondPosition_5 : decode cX0_secondPosition 5 = .ok (.irem, 1) := by decide +kernel
theorem dX0_secondPosition_6 : decode cX0_secondPosition 6 = .ok (.ireturn, 1) := by decide +kernel
theorem dX0_gives_0 : decode cX0_gives 0 = .ok (.iconst 0, 1) := by decide +kernel
theorem dX0_gives_1 : decode cX0_gives 1 = .ok (.istore 5, 2) := by decide +kernel
theorem dX0_gives_3 : decode cX0_gives 3 = .ok (.iload 5, 2) := by decide +kernel
theorem dX0_gives_5 : decode cX0_gives 5 = .ok (.iload 4, 2) := by decide +kernel
theorem dX0_gives_7 : decode cX0_gives 7 = .ok (.if_icmp .ge 40, 3) := by decide +kernel
theorem dX0_gives_10 : decode cX0_gives 10 = .ok (.aload_n 0, 1) := by decide +kernel
theorem dX0_gives_11 : decode cX0_gives 11 = .ok (.iload_n 1, 1) := by decide +kernel
theorem dX0_gives_12 : decode cX0_gives 12 = .ok (.iload_n 2, 1) := by decide +kernel
theorem dX0_gives_13 : decode cX0_gives 13 = .ok (.iload 5, 2) := by decide +kernel
theorem dX0_gives_15 : decode cX0_gives 15 = .ok (.invokevirtual 66, 3) := by decide +kernel
theorem dX0_gives_18 : decode cX0_gives 18 = .ok (.istore 6, 2) := by decide +kernel
theorem dX0_gives_20 : decode cX0_gives 20 = .ok (.iload 6, 2) := by decide +kernel
theorem dX0_gives_22 : decode cX0_gives 22 = .ok (.aload_n 0, 1) := by decide +kernel
theorem dX0_gives_23 : decode cX0_gives 23 = .ok (.getfield 19, 3) := by decide +kernel
theorem dX0_gives_26 : decode cX0_gives 26 = .ok (.iload_n 1, 1) := by decide +kernel
theorem dX0_gives_27 : decode cX0_gives 27 = .ok (.bipush 6, 2) := by decide +kernel
theorem dX0_gives_29 : decode cX0_gives 29 = .ok (.imul, 1) := by decide +kernel
theorem dX0_gives_30 : decode cX0_gives 30 = .ok (.iload_n 3, 1) := by decide +kernel
theorem dX0_gives_31 : decode cX0_gives 31 = .ok (.iadd, 1) := by decide +kernel
theorem dX0_gives_32 : decode cX0_gives 32 = .ok (.iload 5, 2) := by decide +kernel
theorem dX0_gives_34 : decode cX0_gives 34 = .ok (.iadd, 1) := by decide +kernel
theorem dX0_gives_35 : decode cX0_gives 35 = .ok (.iaload, 1) := by decide +kernel
theorem dX0_gives_36 : decode cX0_gives 36 = .ok (.if_icmp .eq 5, 3) := by decide +kernel
theorem dX0_gives_39 : decode cX0_gives 39 = .ok (.iconst 0, 1) := by decide +kernel
theorem dX0_gives_40 : decode cX0_gives 40 = .ok (.ireturn, 1) := by decide +kernel
theorem dX0_gives_41 : decode cX0_gives 41 = .ok (.iinc 5 1, 3) := by decide +kernel
theorem dX0_gives_44 : decode cX0_gives 44 = .ok (.goto (-41), 3) := by decide +kernel
theorem dX0_gives_47 : decode cX0_gives 47 = .ok (.iconst 1, 1) := by decide +kernel
theorem dX0_gives_48 : decode cX0_gives 48 = .ok (.ireturn, 1) := by decide +kernel
theorem dX0_letterOf_0 : decode cX0_letterOf 0 = .ok (.iload_n 2, 1) := by decide +kernel
theorem dX0_letterOf_1 : decode cX0_letterOf 1 = .ok (.iconst 4, 1) := by decide +kernel
theorem dX0_letterOf_2 : decode cX0_letterOf 2 = .ok (.if_icmp .ge 5, 3) := by decide +kernel
theorem dX0_letterOf_5 : decode cX0_letterOf 5 = .ok (.iload_n 2, 1) := by decide +kernel
theorem dX0_letterOf_6 : decode cX0_letterOf 6 = .ok (.ireturn, 1) := by decide +kernel
theorem dX0_letterOf_7 : decode cX0_letterOf 7 = .ok (.iload_n 2, 1) := by decide +kernel
theorem dX0_letterOf_8 : decode cX0_letterOf 8 = .ok (.invokestatic 55, 3) := by decide +kernel
theorem dX0_letterOf_11 : decode cX0_letterOf 11 = .ok (.istore 4, 2) := by decide +kernel
theorem dX0_letterOf_13 : decode cX0_letterOf 13 = .ok (.aload_n 0, 1) := by decide +kernel
theorem dX0_letterOf_14 : decode cX0_letterOf 14 = .ok (.iload_n 1, 1) := by decide +kernel
theorem dX0_letterOf_15 : decode cX0_letterOf 15 = .ok (.iload 4, 2) := by decide +kernel
theorem dX0_letterOf_17 : decode cX0_letterOf 17 = .ok (.invokevirtual 59, 3) := by decide +kernel
theorem dX0_letterOf_20 : decode cX0_letterOf 20 = .ok (.istore 5, 2) := by decide +kernel
theorem dX0_letterOf_22 : decode cX0_letterOf 22 = .ok (.aload_n 0, 1) := by decide +kernel
theorem dX0_letterOf_23 : decode cX0_letterOf 23 = .ok (.getfield 16, 3) := by decide +kernel
theorem dX0_letterOf_26 : decode cX0_letterOf 26 = .ok (.iload_n 1, 1) := by decide +kernel
theorem dX0_letterOf_27 : decode cX0_letterOf 27 = .ok (.bipush 6, 2) := by decide +kernel
theorem dX0_letterOf_29 : decode cX0_letterOf 29 = .ok (.imul, 1) := by decide +kernel
theorem dX0_letterOf_30 : decode cX0_letterOf 30 = .ok (.iload 5, 2) := by decide +kernel
theorem dX0_letterOf_32 : decode cX0_letterOf 32 = .ok (.iadd, 1) := by decide +kernel
theorem dX0_letterOf_33 : decode cX0_letterOf 33 = .ok (.iload_n 3, 1) := by decide +kernel
theorem dX0_letterOf_34 : decode cX0_letterOf 34 = .ok (.iadd, 1) := by decide +kernel
theorem dX0_letterOf_35 : decode cX0_letterOf 35 = .ok (.iaload, 1) := by decide +kernel
theorem dX0_letterOf_36 : decode cX0_letterOf 36 = .ok (.ireturn, 1) := by decide +kernel
theorem dX0_lastNode_0 : decode cX0_lastNode 0 = .ok (.aload_n 0, 1) := by decide +kernel
theorem dX0_lastNode_1 : decode cX0_lastNode 1 = .ok (.getfield 49, 3) := by decide +kernel
theorem dX0_lastNode_4 : decode cX0_lastNode 4 = .ok (.ifCond .le 12, 3) := by decide +kernel
theorem dX0_lastNode_7 : decode cX0_lastNode 7 = .ok (.aload_n 0, 1) := by decide +kernel
theorem dX0_lastNode_8 : decode cX0_lastNode 8 = .ok (.getfield 13, 3) := by decide +kernel
theorem dX0_lastNode_11 : decode cX0_lastNode 11 = .ok (.iconst 0, 1) := by decide +kernel
theorem dX0_lastNode_12 : decode cX0_lastNode 12 = .ok (.iaload, 1) := by decide +kernel
theorem dX0_lastNode_13 : decode cX0_lastNode 13 = .ok (.goto 4, 3) := by decide +kernel
theorem dX0_lastNode_16 : decode cX0_lastNode 16 = .ok (.iconst 0, 1) := by decide +kernel
theorem dX0_lastNode_17 : decode cX0_lastNode 17 = .ok (.istore_n 2, 1) := by decide +kernel
theorem dX0_lastNode_18 : decode cX0_lastNode 18 = .ok (.aload_n 0, 1) := by decide +kernel
theorem dX0_lastNode_19 : decode cX0_lastNode 19 = .ok (.getfield 49, 3) := by decide +kernel
theorem dX0_lastNode_22 : decode cX0_lastNode 22 = .ok (.iconst 1, 1) := by decide +kernel
theorem dX0_lastNode_23 : decode cX0_lastNode 23 = .ok (.if_icmp .le 12, 3) := by decide +kernel
theorem dX0_lastNode_26 : decode cX0_lastNode 26 = .ok (.aload_n 0, 1) := by decide +kernel
theorem dX0_lastNode_27 : decode cX0_lastNode 27 = .ok (.getfield 13, 3) := by decide +kernel
theorem dX0_lastNode_30 : decode cX0_lastNode 30 = .ok (.iconst 1, 1) := by decide +kernel
theorem dX0_lastNode_31 : decode cX0_lastNode 31 = .ok (.iaload, 1) := by decide +kernel
theorem dX0_lastNode_32 : decode cX0_lastNode 32 = .ok (.goto 4, 3) := by decide +kernel
theorem dX0_lastNode_35 : decode cX0_lastNode 35 = .ok (.iconst 0, 1) := by decide +kernel
theorem dX0_lastNode_36 : decode cX0_lastNode 36 = .ok (.istore_n 3, 1) := by decide +kernel
theorem dX0_lastNode_37 : decode cX0_lastNode 37 = .ok (.iload_n 1, 1) := by decide +kernel
theorem dX0_lastNode_38 : decode cX0_lastNode 38 = .ok (.iconst 2, 1) := by decide +kernel
theorem dX0_lastNode_39 : decode cX0_lastNode 39 = .ok (.if_icmp .ne 12, 3) := by decide +kernel
theorem dX0_lastNode_42 : decode cX0_lastNode 42 = .ok (.aload_n 0, 1) := by decide +kernel
theorem dX0_lastNode_43 : decode cX0_lastNode 43 = .ok (.getfield 13, 3) := by decide +kernel
theorem dX0_lastNode_46 : decode cX0_lastNode 46 = .ok (.iconst 2, 1) := by decide +kernel
theorem dX0_lastNode_47 : decode cX0_lastNode 47 = .ok (.iaload, 1) := by decide +kernel
theorem dX0_lastNode_48 : decode cX0_lastNode 48 = .ok (.goto 4, 3) := by decide +kernel
theorem dX0_lastNode_51 : decode cX0_lastNode 51 = .ok (.iconst 0, 1) := by decide +kernel
theorem dX0_lastNode_52 : decode cX0_lastNode 52 = .ok (.istore 4, 2) := by decide +kernel
theorem dX0_lastNode_54 : decode cX0_lastNode 54 = .ok (.iload_n 2, 1) := by decide +kernel
theorem dX0_lastNode_55 : decode cX0_lastNode 55 = .ok (.bipush 7, 2) := by decide +kernel
theorem dX0_lastNode_57 : decode cX0_lastNode 57 = .ok (.iload_n 3, 1) := by decide +kernel
theorem dX0_lastNode_58 : decode cX0_lastNode 58 = .ok (.imul, 1) := by decide +kernel
theorem dX0_lastNode_59 : decode cX0_lastNode 59 = .ok (.iadd, 1) := by decide +kernel
theorem dX0_lastNode_60 : decode cX0_lastNode 60 = .ok (.bipush 49, 2) := by decide +kernel
theorem dX0_lastNode_62 : decode cX0_lastNode 62 = .ok (.iload 4, 2) := by decide +kernel
theorem dX0_lastNode_64 : decode cX0_lastNode 64 = .ok (.imul, 1) := by decide +kernel
theorem dX0_lastNode_65 : decode cX0_lastNode 65 = .ok (.iadd, 1) := by decide +kernel
theorem dX0_lastNode_66 : decode cX0_lastNode 66 = .ok (.ireturn, 1) := by decide +kernel
theorem dX0_exists_0 : decode cX0_exists 0 = .ok (.iload_n 1, 1) := by decide +kernel
theorem dX0_exists_1 : decode cX0_exists 1 = .ok (.bipush 7, 2) := by decide +kernel
theorem dX0_exists_3 : decode cX0_exists 3 = .ok (.irem, 1) := by decide +kernel
theorem dX0_exists_4 : decode cX0_exists 4 = .ok (.iload_n 2, 1) := by decide +kernel
theorem dX0_exists_5 : decode cX0_exists 5 = .ok (.bipush 7, 2) := by decide +kernel
theorem dX0_exists_7 : decode cX0_exists 7 = .ok (.irem, 1) := by decide +kernel
theorem dX0_exists_8 : decode cX0_exists 8 = .ok (.if_icmp .gt 35, 3) := by decide +kernel
theorem dX0_exists_11 : decode cX0_exists 11 = .ok (.iload_n 1, 1) := by decide +kernel
theorem dX0_exists_12 : decode cX0_exists 12 = .ok (.bipush 7, 2) := by decide +kernel
theorem dX0_exists_14 : decode cX0_exists 14 = .ok (.idiv, 1) := by decide +kernel
theorem dX0_exists_15 : decode cX0_exists 15 = .ok (.bipush 7, 2) := by decide +kernel
theorem dX0_exists_17 : decode cX0_exists 17 = .ok (.irem, 1) := by decide +kernel
theorem dX0_exists_18 : decode cX0_exists 18 = .ok (.iload_n 2, 1) := by decide +kernel
theorem dX0_exists_19 : decode cX0_exists 19 = .ok (.bipush 7, 2) := by decide +kernel
theorem dX0_exists_21 : decode cX0_exists 21 = .ok (.idiv, 1) := by decide +kernel
theorem dX0_exists_22 : decode cX0_exists 22 = .ok (.bipush 7, 2) := by decide +kernel
theorem dX0_exists_24 : decode cX0_exists 24 = .ok (.irem, 1) := by decide +kernel
theorem dX0_exists_25 : decode cX0_exists 25 = .ok (.if_icmp .gt 18, 3) := by decide +kernel
theorem dX0_exists_28 : decode cX0_exists 28 = .ok (.iload_n 1, 1) := by decide +kernel
theorem dX0_exists_29 : decode cX0_exists 29 = .ok (.bipush 49, 2) := by decide +kernel
theorem dX0_exists_31 : decode cX0_exists 31 = .ok (.idiv, 1) := by decide +kernel
theorem dX0_exists_32 : decode cX0_exists 32 = .ok (.iload_n 2, 1) := by decide +kernel
theorem dX0_exists_33 : decode cX0_exists 33 = .ok (.bipush 49, 2) := by decide +kernel
theorem dX0_exists_35 : decode cX0_exists 35 = .ok (.idiv, 1) := by decide +kernel
theorem dX0_exists_36 : decode cX0_exists 36 = .ok (.if_icmp .gt 7, 3) := by decide +kernel
theorem dX0_exists_39 : decode cX0_exists 39 = .ok (.iconst 1, 1) := by decide +kernel
theorem dX0_exists_40 : decode cX0_exists 40 = .ok (.goto 4, 3) := by decide +kernel
theorem dX0_exists_43 : decode cX0_exists 43 = .ok (.iconst 0, 1) := by decide +kernel
theorem dX0_exists_44 : decode cX0_exists 44 = .ok (.ireturn, 1) := by decide +kernel
theorem dX0_countFrom_0 : decode cX0_countFrom 0 = .ok (.iconst 0, 1) := by decide +kernel
theorem dX0_countFrom_1 : decode cX0_countFrom 1 = .ok (.istore 4, 2) := by decide +kernel
theorem dX0_countFrom_3 : decode cX0_countFrom 3 = .ok (.iconst 0, 1) := by decide +kernel
theorem dX0_countFrom_4 : decode cX0_countFrom 4 = .ok (.istore 5, 2) := by decide +kernel
theorem dX0_countFrom_6 : decode cX0_countFrom 6 = .ok (.iload 5, 2) := by decide +kernel
theorem dX0_countFrom_8 : decode cX0_countFrom 8 = .ok (.sipush 200, 3) := by decide +kernel
theorem dX0_countFrom_11 : decode cX0_countFrom 11 = .ok (.if_icmp .ge 44, 3) := by decide +kernel
theorem dX0_countFrom_14 : decode cX0_countFrom 14 = .ok (.aload_n 0, 1) := by decide +kernel
theorem dX0_countFrom_15 : decode cX0_countFrom 15 = .ok (.iload_n 1, 1) := by decide +kernel
theorem dX0_countFrom_16 : decode cX0_countFrom 16 = .ok (.iload 5, 2) := by decide +kernel
theorem dX0_countFrom_18 : decode cX0_countFrom 18 = .ok (.iload_n 3, 1) := by decide +kernel
theorem dX0_countFrom_19 : decode cX0_countFrom 19 = .ok (.invokevirtual 85, 3) := by decide +kernel
theorem dX0_countFrom_22 : decode cX0_countFrom 22 = .ok (.istore 6, 2) := by decide +kernel
theorem dX0_countFrom_24 : decode cX0_countFrom 24 = .ok (.iload 6, 2) := by decide +kernel
theorem dX0_countFrom_26 : decode cX0_countFrom 26 = .ok (.ifCond .lt 23, 3) := by decide +kernel
theorem dX0_countFrom_29 : decode cX0_countFrom 29 = .ok (.iload 4, 2) := by decide +kernel
theorem dX0_countFrom_31 : decode cX0_countFrom 31 = .ok (.aload_n 0, 1) := by decide +kernel
theorem dX0_countFrom_32 : decode cX0_countFrom 32 = .ok (.getfield 26, 3) := by decide +kernel
theorem dX0_countFrom_35 : decode cX0_countFrom 35 = .ok (.iload_n 2, 1) := by decide +kernel
theorem dX0_countFrom_36 : decode cX0_countFrom 36 = .ok (.iconst 1, 1) := by decide +kernel
theorem dX0_countFrom_37 : decode cX0_countFrom 37 = .ok (.isub, 1) := by decide +kernel
theorem dX0_countFrom_38 : decode cX0_countFrom 38 = .ok (.sipush 343, 3) := by decide +kernel
theorem dX0_countFrom_41 : decode cX0_countFrom 41 = .ok (.imul, 1) := by decide +kernel
theorem dX0_countFrom_42 : decode cX0_countFrom 42 = .ok (.iload 6, 2) := by decide +kernel
theorem dX0_countFrom_44 : decode cX0_countFrom 44 = .ok (.iadd, 1) := by decide +kernel
theorem dX0_countFrom_45 : decode cX0_countFrom 45 = .ok (.iaload, 1) := by decide +kernel
theorem dX0_countFrom_46 : decode cX0_countFrom 46 = .ok (.iadd, 1) := by decide +kernel
theorem dX0_countFrom_47 : decode cX0_countFrom 47 = .ok (.istore 4, 2) := by decide +kernel
theorem dX0_countFrom_49 : decode cX0_countFrom 49 = .ok (.iinc 5 1, 3) := by decide +kernel
theorem dX0_countFrom_52 : decode cX0_countFrom 52 = .ok (.goto (-46), 3) := by decide +kernel
theorem dX0_countFrom_55 : decode cX0_countFrom 55 = .ok (.iload 4, 2) := by decide +kernel
theorem dX0_countFrom_57 : decode cX0_countFrom 57 = .ok (.ireturn, 1) := by decide +kernel
theorem dX0_step_0 : decode cX0_step 0 = .ok (.aload_n 0, 1) := by decide +kernel
theorem dX0_step_1 : decode cX0_step 1 = .ok (.iconst 0, 1) := by decide +kernel
theorem dX0_step_2 : decode cX0_step 2 = .ok (.iload_n 2, 1) := by decide +kernel
theorem dX0_step_3 : decode cX0_step 3 = .ok (.iload_n 1, 1) := by decide +kernel
theorem dX0_step_4 : decode cX0_step 4 = .ok (.bipush 7, 2) := by decide +kernel
theorem dX0_step_6 : decode cX0_step 6 = .ok (.irem, 1) := by decide +kernel
end
section
set_option maxRecDepth 100000
theorem dX0_step_7 : decode cX0_step 7 = .ok (.iload_n 3, 1) := by decide +kernel
theorem dX0_step_8 : decode cX0_step 8 = .ok (.invokevirtual 81, 3) := by decide +kernel
theorem dX0_step_11 : decode cX0_step 11 = .ok (.istore 4, 2) := by decide +kernel
theorem dX0_step_13 : decode cX0_step 13 = .ok (.aload_n 0, 1) := by decide +kernel
theorem dX0_step_14 : decode cX0_step 14 = .ok (.iconst 1, 1) := by decide +kernel
theorem dX0_step_15 : decode cX0_step 15 = .ok (.iload_n 2, 1) := by decide +kernel
theorem dX0_step_16 : decode cX0_step 16 = .ok (.iload_n 1, 1) := by decide +kernel
theorem dX0_step_17 : decode cX0_step 17 = .ok (.bipush 7, 2) := by decide +kernel
theorem dX0_step_19 : decode cX0_step 19 = .ok (.idiv, 1) := by decide +kernel
theorem dX0_step_20 : decode cX0_step 20 = .ok (.bipush 7, 2) := by decide +kernel
theorem dX0_step_22 : decode cX0_step 22 = .ok (.irem, 1) := by decide +kernel
theorem dX0_step_23 : decode cX0_step 23 = .ok (.iload_n 3, 1) := by decide +kernel
theorem dX0_step_24 : decode cX0_step 24 = .ok (.invokevirtual 81, 3) := by decide +kernel
theorem dX0_step_27 : decode cX0_step 27 = .ok (.istore 5, 2) := by decide +kernel
theorem dX0_step_29 : decode cX0_step 29 = .ok (.aload_n 0, 1) := by decide +kernel
theorem dX0_step_30 : decode cX0_step 30 = .ok (.iconst 2, 1) := by decide +kernel
theorem dX0_step_31 : decode cX0_step 31 = .ok (.iload_n 2, 1) := by decide +kernel
theorem dX0_step_32 : decode cX0_step 32 = .ok (.iload_n 1, 1) := by decide +kernel
theorem dX0_step_33 : decode cX0_step 33 = .ok (.bipush 49, 2) := by decide +kernel
theorem dX0_step_35 : decode cX0_step 35 = .ok (.idiv, 1) := by decide +kernel
theorem dX0_step_36 : decode cX0_step 36 = .ok (.iload_n 3, 1) := by decide +kernel
theorem dX0_step_37 : decode cX0_step 37 = .ok (.invokevirtual 81, 3) := by decide +kernel
theorem dX0_step_40 : decode cX0_step 40 = .ok (.istore 6, 2) := by decide +kernel
theorem dX0_step_42 : decode cX0_step 42 = .ok (.iload 4, 2) := by decide +kernel
theorem dX0_step_44 : decode cX0_step 44 = .ok (.ifCond .lt 13, 3) := by decide +kernel
theorem dX0_step_47 : decode cX0_step 47 = .ok (.iload 5, 2) := by decide +kernel
theorem dX0_step_49 : decode cX0_step 49 = .ok (.ifCond .lt 8, 3) := by decide +kernel
theorem dX0_step_52 : decode cX0_step 52 = .ok (.iload 6, 2) := by decide +kernel
theorem dX0_step_54 : decode cX0_step 54 = .ok (.ifCond .ge 7, 3) := by decide +kernel
theorem dX0_step_57 : decode cX0_step 57 = .ok (.iconst (-1), 1) := by decide +kernel
theorem dX0_step_58 : decode cX0_step 58 = .ok (.goto 17, 3) := by decide +kernel
theorem dX0_step_61 : decode cX0_step 61 = .ok (.iload 4, 2) := by decide +kernel
theorem dX0_step_63 : decode cX0_step 63 = .ok (.bipush 7, 2) := by decide +kernel
theorem dX0_step_65 : decode cX0_step 65 = .ok (.iload 5, 2) := by decide +kernel
theorem dX0_step_67 : decode cX0_step 67 = .ok (.imul, 1) := by decide +kernel
theorem dX0_step_68 : decode cX0_step 68 = .ok (.iadd, 1) := by decide +kernel
theorem dX0_step_69 : decode cX0_step 69 = .ok (.bipush 49, 2) := by decide +kernel
theorem dX0_step_71 : decode cX0_step 71 = .ok (.iload 6, 2) := by decide +kernel
theorem dX0_step_73 : decode cX0_step 73 = .ok (.imul, 1) := by decide +kernel
theorem dX0_step_74 : decode cX0_step 74 = .ok (.iadd, 1) := by decide +kernel
theorem dX0_step_75 : decode cX0_step 75 = .ok (.ireturn, 1) := by decide +kernel
theorem dX0_stepIn_0 : decode cX0_stepIn 0 = .ok (.iload_n 1, 1) := by decide +kernel
theorem dX0_stepIn_1 : decode cX0_stepIn 1 = .ok (.aload_n 0, 1) := by decide +kernel
theorem dX0_stepIn_2 : decode cX0_stepIn 2 = .ok (.getfield 49, 3) := by decide +kernel
theorem dX0_stepIn_5 : decode cX0_stepIn 5 = .ok (.if_icmp .lt 14, 3) := by decide +kernel
theorem dX0_stepIn_8 : decode cX0_stepIn 8 = .ok (.iload_n 1, 1) := by decide +kernel
theorem dX0_stepIn_9 : decode cX0_stepIn 9 = .ok (.iconst 2, 1) := by decide +kernel
theorem dX0_stepIn_10 : decode cX0_stepIn 10 = .ok (.if_icmp .ne 13, 3) := by decide +kernel
theorem dX0_stepIn_13 : decode cX0_stepIn 13 = .ok (.iload 4, 2) := by decide +kernel
theorem dX0_stepIn_15 : decode cX0_stepIn 15 = .ok (.iconst 2, 1) := by decide +kernel
theorem dX0_stepIn_16 : decode cX0_stepIn 16 = .ok (.if_icmp .ne 7, 3) := by decide +kernel
theorem dX0_stepIn_19 : decode cX0_stepIn 19 = .ok (.iconst 1, 1) := by decide +kernel
theorem dX0_stepIn_20 : decode cX0_stepIn 20 = .ok (.goto 4, 3) := by decide +kernel
theorem dX0_stepIn_23 : decode cX0_stepIn 23 = .ok (.iconst 0, 1) := by decide +kernel
theorem dX0_stepIn_24 : decode cX0_stepIn 24 = .ok (.istore 5, 2) := by decide +kernel
theorem dX0_stepIn_26 : decode cX0_stepIn 26 = .ok (.iload 5, 2) := by decide +kernel
theorem dX0_stepIn_28 : decode cX0_stepIn 28 = .ok (.ifCond .eq 23, 3) := by decide +kernel
theorem dX0_stepIn_31 : decode cX0_stepIn 31 = .ok (.aload_n 0, 1) := by decide +kernel
theorem dX0_stepIn_32 : decode cX0_stepIn 32 = .ok (.getfield 22, 3) := by decide +kernel
theorem dX0_stepIn_35 : decode cX0_stepIn 35 = .ok (.iload_n 1, 1) := by decide +kernel
theorem dX0_stepIn_36 : decode cX0_stepIn 36 = .ok (.sipush 200, 3) := by decide +kernel
theorem dX0_stepIn_39 : decode cX0_stepIn 39 = .ok (.imul, 1) := by decide +kernel
theorem dX0_stepIn_40 : decode cX0_stepIn 40 = .ok (.iload_n 2, 1) := by decide +kernel
theorem dX0_stepIn_41 : decode cX0_stepIn 41 = .ok (.iadd, 1) := by decide +kernel
theorem dX0_stepIn_42 : decode cX0_stepIn 42 = .ok (.bipush 7, 2) := by decide +kernel
theorem dX0_stepIn_44 : decode cX0_stepIn 44 = .ok (.imul, 1) := by decide +kernel
theorem dX0_stepIn_45 : decode cX0_stepIn 45 = .ok (.iload_n 3, 1) := by decide +kernel
theorem dX0_stepIn_46 : decode cX0_stepIn 46 = .ok (.iadd, 1) := by decide +kernel
theorem dX0_stepIn_47 : decode cX0_stepIn 47 = .ok (.baload, 1) := by decide +kernel
theorem dX0_stepIn_48 : decode cX0_stepIn 48 = .ok (.goto 4, 3) := by decide +kernel
theorem dX0_stepIn_51 : decode cX0_stepIn 51 = .ok (.iload_n 3, 1) := by decide +kernel
theorem dX0_stepIn_52 : decode cX0_stepIn 52 = .ok (.ireturn, 1) := by decide +kernel
theorem dX0_programs_0 : decode cX0_programs 0 = .ok (.iload_n 1, 1) := by decide +kernel
theorem dX0_programs_1 : decode cX0_programs 1 = .ok (.iconst 1, 1) := by decide +kernel
theorem dX0_programs_2 : decode cX0_programs 2 = .ok (.if_icmp .lt 8, 3) := by decide +kernel
theorem dX0_programs_5 : decode cX0_programs 5 = .ok (.iload_n 1, 1) := by decide +kernel
theorem dX0_programs_6 : decode cX0_programs 6 = .ok (.iconst 3, 1) := by decide +kernel
theorem dX0_programs_7 : decode cX0_programs 7 = .ok (.if_icmp .le 6, 3) := by decide +kernel
theorem dX0_programs_10 : decode cX0_programs 10 = .ok (.bipush (-4), 2) := by decide +kernel
theorem dX0_programs_12 : decode cX0_programs 12 = .ok (.ireturn, 1) := by decide +kernel
theorem dX0_programs_13 : decode cX0_programs 13 = .ok (.aload_n 0, 1) := by decide +kernel
theorem dX0_programs_14 : decode cX0_programs 14 = .ok (.iconst 0, 1) := by decide +kernel
theorem dX0_programs_15 : decode cX0_programs 15 = .ok (.invokevirtual 102, 3) := by decide +kernel
theorem dX0_programs_18 : decode cX0_programs 18 = .ok (.aload_n 0, 1) := by decide +kernel
theorem dX0_programs_19 : decode cX0_programs 19 = .ok (.getfield 26, 3) := by decide +kernel
theorem dX0_programs_22 : decode cX0_programs 22 = .ok (.iload_n 1, 1) := by decide +kernel
theorem dX0_programs_23 : decode cX0_programs 23 = .ok (.sipush 343, 3) := by decide +kernel
theorem dX0_programs_26 : decode cX0_programs 26 = .ok (.imul, 1) := by decide +kernel
theorem dX0_programs_27 : decode cX0_programs 27 = .ok (.iaload, 1) := by decide +kernel
theorem dX0_programs_28 : decode cX0_programs 28 = .ok (.ireturn, 1) := by decide +kernel
theorem dX0_atom_0 : decode cX0_atom 0 = .ok (.aload_n 0, 1) := by decide +kernel
theorem dX0_atom_1 : decode cX0_atom 1 = .ok (.invokevirtual 116, 3) := by decide +kernel
theorem dX0_atom_4 : decode cX0_atom 4 = .ok (.iload_n 1, 1) := by decide +kernel
theorem dX0_atom_5 : decode cX0_atom 5 = .ok (.ifCond .lt 11, 3) := by decide +kernel
theorem dX0_atom_8 : decode cX0_atom 8 = .ok (.iload_n 1, 1) := by decide +kernel
theorem dX0_atom_9 : decode cX0_atom 9 = .ok (.aload_n 0, 1) := by decide +kernel
theorem dX0_atom_10 : decode cX0_atom 10 = .ok (.getfield 109, 3) := by decide +kernel
theorem dX0_atom_13 : decode cX0_atom 13 = .ok (.if_icmp .lt 8, 3) := by decide +kernel
theorem dX0_atom_16 : decode cX0_atom 16 = .ok (.bipush (-3), 2) := by decide +kernel
theorem dX0_atom_18 : decode cX0_atom 18 = .ok (.goto 9, 3) := by decide +kernel
theorem dX0_atom_21 : decode cX0_atom 21 = .ok (.aload_n 0, 1) := by decide +kernel
theorem dX0_atom_22 : decode cX0_atom 22 = .ok (.getfield 29, 3) := by decide +kernel
theorem dX0_atom_25 : decode cX0_atom 25 = .ok (.iload_n 1, 1) := by decide +kernel
theorem dX0_atom_26 : decode cX0_atom 26 = .ok (.iaload, 1) := by decide +kernel
theorem dX0_atom_27 : decode cX0_atom 27 = .ok (.ireturn, 1) := by decide +kernel
theorem dX0_findFirst_0 : decode cX0_findFirst 0 = .ok (.aload_n 0, 1) := by decide +kernel
theorem dX0_findFirst_1 : decode cX0_findFirst 1 = .ok (.aload_n 0, 1) := by decide +kernel
theorem dX0_findFirst_2 : decode cX0_findFirst 2 = .ok (.invokevirtual 105, 3) := by decide +kernel
theorem dX0_findFirst_5 : decode cX0_findFirst 5 = .ok (.putfield 109, 3) := by decide +kernel
theorem dX0_findFirst_8 : decode cX0_findFirst 8 = .ok (.iconst 0, 1) := by decide +kernel
theorem dX0_findFirst_9 : decode cX0_findFirst 9 = .ok (.istore_n 1, 1) := by decide +kernel
theorem dX0_findFirst_10 : decode cX0_findFirst 10 = .ok (.iconst 0, 1) := by decide +kernel
theorem dX0_findFirst_11 : decode cX0_findFirst 11 = .ok (.istore_n 2, 1) := by decide +kernel
theorem dX0_findFirst_12 : decode cX0_findFirst 12 = .ok (.iload_n 2, 1) := by decide +kernel
theorem dX0_findFirst_13 : decode cX0_findFirst 13 = .ok (.aload_n 0, 1) := by decide +kernel
theorem dX0_findFirst_14 : decode cX0_findFirst 14 = .ok (.getfield 109, 3) := by decide +kernel
theorem dX0_findFirst_17 : decode cX0_findFirst 17 = .ok (.if_icmp .ge 56, 3) := by decide +kernel
theorem dX0_findFirst_20 : decode cX0_findFirst 20 = .ok (.iconst 0, 1) := by decide +kernel
theorem dX0_findFirst_21 : decode cX0_findFirst 21 = .ok (.istore_n 3, 1) := by decide +kernel
theorem dX0_findFirst_22 : decode cX0_findFirst 22 = .ok (.iload_n 3, 1) := by decide +kernel
theorem dX0_findFirst_23 : decode cX0_findFirst 23 = .ok (.sipush 199, 3) := by decide +kernel
theorem dX0_findFirst_26 : decode cX0_findFirst 26 = .ok (.if_icmp .ge 26, 3) := by decide +kernel
theorem dX0_findFirst_29 : decode cX0_findFirst 29 = .ok (.aload_n 0, 1) := by decide +kernel
theorem dX0_findFirst_30 : decode cX0_findFirst 30 = .ok (.iload_n 1, 1) := by decide +kernel
theorem dX0_findFirst_31 : decode cX0_findFirst 31 = .ok (.iload_n 3, 1) := by decide +kernel
theorem dX0_findFirst_32 : decode cX0_findFirst 32 = .ok (.aload_n 0, 1) := by decide +kernel
theorem dX0_findFirst_33 : decode cX0_findFirst 33 = .ok (.getfield 109, 3) := by decide +kernel
theorem dX0_findFirst_36 : decode cX0_findFirst 36 = .ok (.iload_n 2, 1) := by decide +kernel
theorem dX0_findFirst_37 : decode cX0_findFirst 37 = .ok (.isub, 1) := by decide +kernel
theorem dX0_findFirst_38 : decode cX0_findFirst 38 = .ok (.iconst 1, 1) := by decide +kernel
theorem dX0_findFirst_39 : decode cX0_findFirst 39 = .ok (.isub, 1) := by decide +kernel
theorem dX0_findFirst_40 : decode cX0_findFirst 40 = .ok (.invokevirtual 112, 3) := by decide +kernel
theorem dX0_findFirst_43 : decode cX0_findFirst 43 = .ok (.ifCond .ne 9, 3) := by decide +kernel
theorem dX0_findFirst_46 : decode cX0_findFirst 46 = .ok (.iinc 3 1, 3) := by decide +kernel
theorem dX0_findFirst_49 : decode cX0_findFirst 49 = .ok (.goto (-27), 3) := by decide +kernel
theorem dX0_findFirst_52 : decode cX0_findFirst 52 = .ok (.aload_n 0, 1) := by decide +kernel
theorem dX0_findFirst_53 : decode cX0_findFirst 53 = .ok (.getfield 29, 3) := by decide +kernel
theorem dX0_findFirst_56 : decode cX0_findFirst 56 = .ok (.iload_n 2, 1) := by decide +kernel
theorem dX0_findFirst_57 : decode cX0_findFirst 57 = .ok (.iload_n 3, 1) := by decide +kernel
theorem dX0_findFirst_58 : decode cX0_findFirst 58 = .ok (.iastore, 1) := by decide +kernel
theorem dX0_findFirst_59 : decode cX0_findFirst 59 = .ok (.aload_n 0, 1) := by decide +kernel
theorem dX0_findFirst_60 : decode cX0_findFirst 60 = .ok (.iload_n 1, 1) := by decide +kernel
theorem dX0_findFirst_61 : decode cX0_findFirst 61 = .ok (.iload_n 3, 1) := by decide +kernel
theorem dX0_findFirst_62 : decode cX0_findFirst 62 = .ok (.iconst 0, 1) := by decide +kernel
theorem dX0_findFirst_63 : decode cX0_findFirst 63 = .ok (.invokevirtual 85, 3) := by decide +kernel
theorem dX0_findFirst_66 : decode cX0_findFirst 66 = .ok (.istore_n 1, 1) := by decide +kernel
theorem dX0_findFirst_67 : decode cX0_findFirst 67 = .ok (.iinc 2 1, 3) := by decide +kernel
theorem dX0_findFirst_70 : decode cX0_findFirst 70 = .ok (.goto (-58), 3) := by decide +kernel
theorem dX0_findFirst_73 : decode cX0_findFirst 73 = .ok (.return_, 1) := by decide +kernel
theorem dX0_goesOn_0 : decode cX0_goesOn 0 = .ok (.aload_n 0, 1) := by decide +kernel
theorem dX0_goesOn_1 : decode cX0_goesOn 1 = .ok (.iload_n 1, 1) := by decide +kernel
theorem dX0_goesOn_2 : decode cX0_goesOn 2 = .ok (.iload_n 2, 1) := by decide +kernel
theorem dX0_goesOn_3 : decode cX0_goesOn 3 = .ok (.iconst 0, 1) := by decide +kernel
theorem dX0_goesOn_4 : decode cX0_goesOn 4 = .ok (.invokevirtual 85, 3) := by decide +kernel
theorem dX0_goesOn_7 : decode cX0_goesOn 7 = .ok (.istore 4, 2) := by decide +kernel
theorem dX0_goesOn_9 : decode cX0_goesOn 9 = .ok (.iload 4, 2) := by decide +kernel
theorem dX0_goesOn_11 : decode cX0_goesOn 11 = .ok (.ifCond .lt 23, 3) := by decide +kernel
theorem dX0_goesOn_14 : decode cX0_goesOn 14 = .ok (.aload_n 0, 1) := by decide +kernel
theorem dX0_goesOn_15 : decode cX0_goesOn 15 = .ok (.getfield 26, 3) := by decide +kernel
theorem dX0_goesOn_18 : decode cX0_goesOn 18 = .ok (.iload_n 3, 1) := by decide +kernel
theorem dX0_goesOn_19 : decode cX0_goesOn 19 = .ok (.sipush 343, 3) := by decide +kernel
theorem dX0_goesOn_22 : decode cX0_goesOn 22 = .ok (.imul, 1) := by decide +kernel
theorem dX0_goesOn_23 : decode cX0_goesOn 23 = .ok (.iload 4, 2) := by decide +kernel
theorem dX0_goesOn_25 : decode cX0_goesOn 25 = .ok (.iadd, 1) := by decide +kernel
theorem dX0_goesOn_26 : decode cX0_goesOn 26 = .ok (.iaload, 1) := by decide +kernel
theorem dX0_goesOn_27 : decode cX0_goesOn 27 = .ok (.ifCond .le 7, 3) := by decide +kernel
theorem dX0_goesOn_30 : decode cX0_goesOn 30 = .ok (.iconst 1, 1) := by decide +kernel
theorem dX0_goesOn_31 : decode cX0_goesOn 31 = .ok (.goto 4, 3) := by decide +kernel
theorem dX0_goesOn_34 : decode cX0_goesOn 34 = .ok (.iconst 0, 1) := by decide +kernel
theorem dX0_goesOn_35 : decode cX0_goesOn 35 = .ok (.ireturn, 1) := by decide +kernel
theorem dX0_can_0 : decode cX0_can 0 = .ok (.aload_n 0, 1) := by decide +kernel
theorem dX0_can_1 : decode cX0_can 1 = .ok (.invokevirtual 122, 3) := by decide +kernel
theorem dX0_can_4 : decode cX0_can 4 = .ok (.istore_n 1, 1) := by decide +kernel
theorem dX0_can_5 : decode cX0_can 5 = .ok (.iload_n 1, 1) := by decide +kernel
theorem dX0_can_6 : decode cX0_can 6 = .ok (.ifCond .le 7, 3) := by decide +kernel
theorem dX0_can_9 : decode cX0_can 9 = .ok (.iconst 1, 1) := by decide +kernel
theorem dX0_can_10 : decode cX0_can 10 = .ok (.goto 4, 3) := by decide +kernel
theorem dX0_can_13 : decode cX0_can 13 = .ok (.iconst 0, 1) := by decide +kernel
theorem dX0_can_14 : decode cX0_can 14 = .ok (.ireturn, 1) := by decide +kernel
theorem dX0_waysForQuery_0 : decode cX0_waysForQuery 0 = .ok (.aload_n 0, 1) := by decide +kernel
theorem dX0_waysForQuery_1 : decode cX0_waysForQuery 1 = .ok (.invokevirtual 105, 3) := by decide +kernel
theorem dX0_waysForQuery_4 : decode cX0_waysForQuery 4 = .ok (.istore_n 1, 1) := by decide +kernel
theorem dX0_waysForQuery_5 : decode cX0_waysForQuery 5 = .ok (.iload_n 1, 1) := by decide +kernel
theorem dX0_waysForQuery_6 : decode cX0_waysForQuery 6 = .ok (.ifCond .ne 5, 3) := by decide +kernel
theorem dX0_waysForQuery_9 : decode cX0_waysForQuery 9 = .ok (.iconst 0, 1) := by decide +kernel
theorem dX0_waysForQuery_10 : decode cX0_waysForQuery 10 = .ok (.ireturn, 1) := by decide +kernel
theorem dX0_waysForQuery_11 : decode cX0_waysForQuery 11 = .ok (.aload_n 0, 1) := by decide +kernel
theorem dX0_waysForQuery_12 : decode cX0_waysForQuery 12 = .ok (.iconst 2, 1) := by decide +kernel
theorem dX0_waysForQuery_13 : decode cX0_waysForQuery 13 = .ok (.invokevirtual 102, 3) := by decide +kernel
theorem dX0_waysForQuery_16 : decode cX0_waysForQuery 16 = .ok (.aload_n 0, 1) := by decide +kernel
theorem dX0_waysForQuery_17 : decode cX0_waysForQuery 17 = .ok (.getfield 26, 3) := by decide +kernel
theorem dX0_waysForQuery_20 : decode cX0_waysForQuery 20 = .ok (.iload_n 1, 1) := by decide +kernel
theorem dX0_waysForQuery_21 : decode cX0_waysForQuery 21 = .ok (.sipush 343, 3) := by decide +kernel
theorem dX0_waysForQuery_24 : decode cX0_waysForQuery 24 = .ok (.imul, 1) := by decide +kernel
theorem dX0_waysForQuery_25 : decode cX0_waysForQuery 25 = .ok (.iaload, 1) := by decide +kernel
theorem dX0_waysForQuery_26 : decode cX0_waysForQuery 26 = .ok (.ireturn, 1) := by decide +kernel
theorem dX0_ways_0 : decode cX0_ways 0 = .ok (.aload_n 0, 1) := by decide +kernel
theorem dX0_ways_1 : decode cX0_ways 1 = .ok (.invokevirtual 122, 3) := by decide +kernel
theorem dX0_ways_4 : decode cX0_ways 4 = .ok (.ireturn, 1) := by decide +kernel
theorem dX0_resultLength_0 : decode cX0_resultLength 0 = .ok (.aload_n 0, 1) := by decide +kernel
theorem dX0_resultLength_1 : decode cX0_resultLength 1 = .ok (.invokevirtual 125, 3) := by decide +kernel
theorem dX0_resultLength_4 : decode cX0_resultLength 4 = .ok (.istore_n 1, 1) := by decide +kernel
theorem dX0_resultLength_5 : decode cX0_resultLength 5 = .ok (.iload_n 1, 1) := by decide +kernel
theorem dX0_resultLength_6 : decode cX0_resultLength 6 = .ok (.ifCond .eq 10, 3) := by decide +kernel
theorem dX0_resultLength_9 : decode cX0_resultLength 9 = .ok (.aload_n 0, 1) := by decide +kernel
theorem dX0_resultLength_10 : decode cX0_resultLength 10 = .ok (.getfield 119, 3) := by decide +kernel
theorem dX0_resultLength_13 : decode cX0_resultLength 13 = .ok (.goto 5, 3) := by decide +kernel
theorem dX0_resultLength_16 : decode cX0_resultLength 16 = .ok (.bipush (-3), 2) := by decide +kernel
theorem dX0_resultLength_18 : decode cX0_resultLength 18 = .ok (.ireturn, 1) := by decide +kernel
theorem dX0_run_0 : decode cX0_run 0 = .ok (.aload_n 0, 1) := by decide +kernel
theorem dX0_run_1 : decode cX0_run 1 = .ok (.invokevirtual 116, 3) := by decide +kernel
theorem dX0_run_4 : decode cX0_run 4 = .ok (.aload_n 0, 1) := by decide +kernel
theorem dX0_run_5 : decode cX0_run 5 = .ok (.getfield 109, 3) := by decide +kernel
theorem dX0_run_8 : decode cX0_run 8 = .ok (.ifCond .ne 5, 3) := by decide +kernel
theorem dX0_run_11 : decode cX0_run 11 = .ok (.iconst 0, 1) := by decide +kernel
theorem dX0_run_12 : decode cX0_run 12 = .ok (.ireturn, 1) := by decide +kernel
theorem dX0_run_13 : decode cX0_run 13 = .ok (.aload_n 0, 1) := by decide +kernel
theorem dX0_run_14 : decode cX0_run 14 = .ok (.iconst 0, 1) := by decide +kernel
theorem dX0_run_15 : decode cX0_run 15 = .ok (.putfield 119, 3) := by decide +kernel
theorem dX0_run_18 : decode cX0_run 18 = .ok (.iconst 0, 1) := by decide +kernel
theorem dX0_run_19 : decode cX0_run 19 = .ok (.istore_n 1, 1) := by decide +kernel
theorem dX0_run_20 : decode cX0_run 20 = .ok (.iload_n 1, 1) := by decide +kernel
theorem dX0_run_21 : decode cX0_run 21 = .ok (.aload_n 0, 1) := by decide +kernel
theorem dX0_run_22 : decode cX0_run 22 = .ok (.getfield 109, 3) := by decide +kernel
theorem dX0_run_25 : decode cX0_run 25 = .ok (.if_icmp .ge 71, 3) := by decide +kernel
theorem dX0_run_28 : decode cX0_run 28 = .ok (.aload_n 0, 1) := by decide +kernel
theorem dX0_run_29 : decode cX0_run 29 = .ok (.iconst 2, 1) := by decide +kernel
theorem dX0_run_30 : decode cX0_run 30 = .ok (.aload_n 0, 1) := by decide +kernel
theorem dX0_run_31 : decode cX0_run 31 = .ok (.getfield 29, 3) := by decide +kernel
theorem dX0_run_34 : decode cX0_run 34 = .ok (.iload_n 1, 1) := by decide +kernel
theorem dX0_run_35 : decode cX0_run 35 = .ok (.iaload, 1) := by decide +kernel
theorem dX0_run_36 : decode cX0_run 36 = .ok (.invokevirtual 70, 3) := by decide +kernel
theorem dX0_run_39 : decode cX0_run 39 = .ok (.istore_n 2, 1) := by decide +kernel
theorem dX0_run_40 : decode cX0_run 40 = .ok (.iload_n 2, 1) := by decide +kernel
theorem dX0_run_41 : decode cX0_run 41 = .ok (.ifCond .ne 5, 3) := by decide +kernel
theorem dX0_run_44 : decode cX0_run 44 = .ok (.iconst 0, 1) := by decide +kernel
theorem dX0_run_45 : decode cX0_run 45 = .ok (.ireturn, 1) := by decide +kernel
theorem dX0_run_46 : decode cX0_run 46 = .ok (.iconst 0, 1) := by decide +kernel
theorem dX0_run_47 : decode cX0_run 47 = .ok (.istore_n 3, 1) := by decide +kernel
theorem dX0_run_48 : decode cX0_run 48 = .ok (.iload_n 3, 1) := by decide +kernel
theorem dX0_run_49 : decode cX0_run 49 = .ok (.iload_n 2, 1) := by decide +kernel
theorem dX0_run_50 : decode cX0_run 50 = .ok (.if_icmp .ge 40, 3) := by decide +kernel
theorem dX0_run_53 : decode cX0_run 53 = .ok (.aload_n 0, 1) := by decide +kernel
theorem dX0_run_54 : decode cX0_run 54 = .ok (.getfield 32, 3) := by decide +kernel
theorem dX0_run_57 : decode cX0_run 57 = .ok (.aload_n 0, 1) := by decide +kernel
theorem dX0_run_58 : decode cX0_run 58 = .ok (.getfield 119, 3) := by decide +kernel
theorem dX0_run_61 : decode cX0_run 61 = .ok (.aload_n 0, 1) := by decide +kernel
theorem dX0_run_62 : decode cX0_run 62 = .ok (.iconst 2, 1) := by decide +kernel
theorem dX0_run_63 : decode cX0_run 63 = .ok (.aload_n 0, 1) := by decide +kernel
theorem dX0_run_64 : decode cX0_run 64 = .ok (.getfield 29, 3) := by decide +kernel
theorem dX0_run_67 : decode cX0_run 67 = .ok (.iload_n 1, 1) := by decide +kernel
theorem dX0_run_68 : decode cX0_run 68 = .ok (.iaload, 1) := by decide +kernel
theorem dX0_run_69 : decode cX0_run 69 = .ok (.iload_n 3, 1) := by decide +kernel
theorem dX0_run_70 : decode cX0_run 70 = .ok (.invokevirtual 66, 3) := by decide +kernel
theorem dX0_run_73 : decode cX0_run 73 = .ok (.iastore, 1) := by decide +kernel
theorem dX0_run_74 : decode cX0_run 74 = .ok (.aload_n 0, 1) := by decide +kernel
theorem dX0_run_75 : decode cX0_run 75 = .ok (.dup, 1) := by decide +kernel
theorem dX0_run_76 : decode cX0_run 76 = .ok (.getfield 119, 3) := by decide +kernel
theorem dX0_run_79 : decode cX0_run 79 = .ok (.iconst 1, 1) := by decide +kernel
theorem dX0_run_80 : decode cX0_run 80 = .ok (.iadd, 1) := by decide +kernel
theorem dX0_run_81 : decode cX0_run 81 = .ok (.putfield 119, 3) := by decide +kernel
theorem dX0_run_84 : decode cX0_run 84 = .ok (.iinc 3 1, 3) := by decide +kernel
theorem dX0_run_87 : decode cX0_run 87 = .ok (.goto (-39), 3) := by decide +kernel
theorem dX0_run_90 : decode cX0_run 90 = .ok (.iinc 1 1, 3) := by decide +kernel
theorem dX0_run_93 : decode cX0_run 93 = .ok (.goto (-73), 3) := by decide +kernel
theorem dX0_run_96 : decode cX0_run 96 = .ok (.iconst 1, 1) := by decide +kernel
theorem dX0_run_97 : decode cX0_run 97 = .ok (.ireturn, 1) := by decide +kernel
theorem dX0_result_0 : decode cX0_result 0 = .ok (.aload_n 0, 1) := by decide +kernel
theorem dX0_result_1 : decode cX0_result 1 = .ok (.invokevirtual 125, 3) := by decide +kernel
theorem dX0_result_4 : decode cX0_result 4 = .ok (.istore_n 2, 1) := by decide +kernel
theorem dX0_result_5 : decode cX0_result 5 = .ok (.iload_n 2, 1) := by decide +kernel
theorem dX0_result_6 : decode cX0_result 6 = .ok (.ifCond .eq 15, 3) := by decide +kernel
theorem dX0_result_9 : decode cX0_result 9 = .ok (.iload_n 1, 1) := by decide +kernel
theorem dX0_result_10 : decode cX0_result 10 = .ok (.ifCond .lt 11, 3) := by decide +kernel
theorem dX0_result_13 : decode cX0_result 13 = .ok (.iload_n 1, 1) := by decide +kernel
theorem dX0_result_14 : decode cX0_result 14 = .ok (.aload_n 0, 1) := by decide +kernel
theorem dX0_result_15 : decode cX0_result 15 = .ok (.getfield 119, 3) := by decide +kernel
theorem dX0_result_18 : decode cX0_result 18 = .ok (.if_icmp .lt 8, 3) := by decide +kernel
theorem dX0_result_21 : decode cX0_result 21 = .ok (.bipush (-3), 2) := by decide +kernel
theorem dX0_result_23 : decode cX0_result 23 = .ok (.goto 9, 3) := by decide +kernel
theorem dX0_result_26 : decode cX0_result 26 = .ok (.aload_n 0, 1) := by decide +kernel
theorem dX0_result_27 : decode cX0_result 27 = .ok (.getfield 32, 3) := by decide +kernel
theorem dX0_result_30 : decode cX0_result 30 = .ok (.iload_n 1, 1) := by decide +kernel
theorem dX0_result_31 : decode cX0_result 31 = .ok (.iaload, 1) := by decide +kernel
theorem dX0_result_32 : decode cX0_result 32 = .ok (.ireturn, 1) := by decide +kernel
theorem dX0_right_0 : decode cX0_right 0 = .ok (.iload_n 1, 1) := by decide +kernel
theorem dX0_right_1 : decode cX0_right 1 = .ok (.ifCond .lt 10, 3) := by decide +kernel
theorem dX0_right_4 : decode cX0_right 4 = .ok (.iload_n 1, 1) := by decide +kernel
theorem dX0_right_5 : decode cX0_right 5 = .ok (.sipush 200, 3) := by decide +kernel
theorem dX0_right_8 : decode cX0_right 8 = .ok (.if_icmp .lt 5, 3) := by decide +kernel
theorem dX0_right_11 : decode cX0_right 11 = .ok (.iconst 0, 1) := by decide +kernel
theorem dX0_right_12 : decode cX0_right 12 = .ok (.ireturn, 1) := by decide +kernel
theorem dX0_right_13 : decode cX0_right 13 = .ok (.aload_n 0, 1) := by decide +kernel
theorem dX0_right_14 : decode cX0_right 14 = .ok (.iconst 0, 1) := by decide +kernel
theorem dX0_right_15 : decode cX0_right 15 = .ok (.invokevirtual 102, 3) := by decide +kernel
theorem dX0_right_18 : decode cX0_right 18 = .ok (.aload_n 0, 1) := by decide +kernel
theorem dX0_right_19 : decode cX0_right 19 = .ok (.iconst 0, 1) := by decide +kernel
theorem dX0_right_20 : decode cX0_right 20 = .ok (.iload_n 1, 1) := by decide +kernel
theorem dX0_right_21 : decode cX0_right 21 = .ok (.iconst 0, 1) := by decide +kernel
theorem dX0_right_22 : decode cX0_right 22 = .ok (.invokevirtual 85, 3) := by decide +kernel
theorem dX0_right_25 : decode cX0_right 25 = .ok (.istore_n 2, 1) := by decide +kernel
theorem dX0_right_26 : decode cX0_right 26 = .ok (.iload_n 2, 1) := by decide +kernel
theorem dX0_right_27 : decode cX0_right 27 = .ok (.aload_n 0, 1) := by decide +kernel
theorem dX0_right_28 : decode cX0_right 28 = .ok (.iconst 0, 1) := by decide +kernel
theorem dX0_right_29 : decode cX0_right 29 = .ok (.invokevirtual 92, 3) := by decide +kernel
theorem dX0_right_32 : decode cX0_right 32 = .ok (.if_icmp .ne 7, 3) := by decide +kernel
theorem dX0_right_35 : decode cX0_right 35 = .ok (.iconst 1, 1) := by decide +kernel
theorem dX0_right_36 : decode cX0_right 36 = .ok (.goto 4, 3) := by decide +kernel
theorem dX0_right_39 : decode cX0_right 39 = .ok (.iconst 0, 1) := by decide +kernel
theorem dX0_right_40 : decode cX0_right 40 = .ok (.ireturn, 1) := by decide +kernel
theorem dX1_init_0 : decode cX1_init 0 = .ok (.aload_n 0, 1) := by decide +kernel
theorem dX1_init_1 : decode cX1_init 1 = .ok (.invokespecial 1, 3) := by decide +kernel
theorem dX1_init_4 : decode cX1_init 4 = .ok (.aload_n 0, 1) := by decide +kernel
theorem dX1_init_5 : decode cX1_init 5 = .ok (.bipush 18, 2) := by decide +kernel
theorem dX1_init_7 : decode cX1_init 7 = .ok (.newarray .int, 2) := by decide +kernel
theorem dX1_init_9 : decode cX1_init 9 = .ok (.putfield 7, 3) := by decide +kernel
theorem dX1_init_12 : decode cX1_init 12 = .ok (.aload_n 0, 1) := by decide +kernel
theorem dX1_init_13 : decode cX1_init 13 = .ok (.bipush 18, 2) := by decide +kernel
theorem dX1_init_15 : decode cX1_init 15 = .ok (.newarray .int, 2) := by decide +kernel
theorem dX1_init_17 : decode cX1_init 17 = .ok (.putfield 13, 3) := by decide +kernel
theorem dX1_init_20 : decode cX1_init 20 = .ok (.aload_n 0, 1) := by decide +kernel
theorem dX1_init_21 : decode cX1_init 21 = .ok (.iconst 3, 1) := by decide +kernel
theorem dX1_init_22 : decode cX1_init 22 = .ok (.newarray .int, 2) := by decide +kernel
theorem dX1_init_24 : decode cX1_init 24 = .ok (.putfield 16, 3) := by decide +kernel
theorem dX1_init_27 : decode cX1_init 27 = .ok (.aload_n 0, 1) := by decide +kernel
theorem dX1_init_28 : decode cX1_init 28 = .ok (.iconst 3, 1) := by decide +kernel
theorem dX1_init_29 : decode cX1_init 29 = .ok (.newarray .int, 2) := by decide +kernel
theorem dX1_init_31 : decode cX1_init 31 = .ok (.putfield 19, 3) := by decide +kernel
theorem dX1_init_34 : decode cX1_init 34 = .ok (.aload_n 0, 1) := by decide +kernel
theorem dX1_init_35 : decode cX1_init 35 = .ok (.bipush 12, 2) := by decide +kernel
end
section
set_option maxRecDepth 100000
theorem dX1_init_37 : decode cX1_init 37 = .ok (.newarray .int, 2) := by decide +kernel
theorem dX1_init_39 : decode cX1_init 39 = .ok (.putfield 22, 3) := by decide +kernel
theorem dX1_init_42 : decode cX1_init 42 = .ok (.aload_n 0, 1) := by decide +kernel
theorem dX1_init_43 : decode cX1_init 43 = .ok (.iconst 3, 1) := by decide +kernel
theorem dX1_init_44 : decode cX1_init 44 = .ok (.newarray .int, 2) := by decide +kernel
theorem dX1_init_46 : decode cX1_init 46 = .ok (.putfield 25, 3) := by decide +kernel
theorem dX1_init_49 : decode cX1_init 49 = .ok (.aload_n 0, 1) := by decide +kernel
theorem dX1_init_50 : decode cX1_init 50 = .ok (.bipush 18, 2) := by decide +kernel
theorem dX1_init_52 : decode cX1_init 52 = .ok (.newarray .int, 2) := by decide +kernel
theorem dX1_init_54 : decode cX1_init 54 = .ok (.putfield 28, 3) := by decide +kernel
theorem dX1_init_57 : decode cX1_init 57 = .ok (.return_, 1) := by decide +kernel
theorem dX1_typeIn_0 : decode cX1_typeIn 0 = .ok (.aload_n 0, 1) := by decide +kernel
theorem dX1_typeIn_1 : decode cX1_typeIn 1 = .ok (.iload_n 1, 1) := by decide +kernel
theorem dX1_typeIn_2 : decode cX1_typeIn 2 = .ok (.invokevirtual 31, 3) := by decide +kernel
theorem dX1_typeIn_5 : decode cX1_typeIn 5 = .ok (.ifCond .eq 5, 3) := by decide +kernel
theorem dX1_typeIn_8 : decode cX1_typeIn 8 = .ok (.iconst (-1), 1) := by decide +kernel
theorem dX1_typeIn_9 : decode cX1_typeIn 9 = .ok (.ireturn, 1) := by decide +kernel
theorem dX1_typeIn_10 : decode cX1_typeIn 10 = .ok (.aload_n 0, 1) := by decide +kernel
theorem dX1_typeIn_11 : decode cX1_typeIn 11 = .ok (.getfield 16, 3) := by decide +kernel
theorem dX1_typeIn_14 : decode cX1_typeIn 14 = .ok (.iconst 2, 1) := by decide +kernel
theorem dX1_typeIn_15 : decode cX1_typeIn 15 = .ok (.iaload, 1) := by decide +kernel
theorem dX1_typeIn_16 : decode cX1_typeIn 16 = .ok (.bipush 6, 2) := by decide +kernel
theorem dX1_typeIn_18 : decode cX1_typeIn 18 = .ok (.if_icmp .ne 6, 3) := by decide +kernel
theorem dX1_typeIn_21 : decode cX1_typeIn 21 = .ok (.bipush (-2), 2) := by decide +kernel
theorem dX1_typeIn_23 : decode cX1_typeIn 23 = .ok (.ireturn, 1) := by decide +kernel
theorem dX1_typeIn_24 : decode cX1_typeIn 24 = .ok (.aload_n 0, 1) := by decide +kernel
theorem dX1_typeIn_25 : decode cX1_typeIn 25 = .ok (.getfield 7, 3) := by decide +kernel
theorem dX1_typeIn_28 : decode cX1_typeIn 28 = .ok (.bipush 12, 2) := by decide +kernel
theorem dX1_typeIn_30 : decode cX1_typeIn 30 = .ok (.aload_n 0, 1) := by decide +kernel
theorem dX1_typeIn_31 : decode cX1_typeIn 31 = .ok (.getfield 16, 3) := by decide +kernel
theorem dX1_typeIn_34 : decode cX1_typeIn 34 = .ok (.iconst 2, 1) := by decide +kernel
theorem dX1_typeIn_35 : decode cX1_typeIn 35 = .ok (.iaload, 1) := by decide +kernel
theorem dX1_typeIn_36 : decode cX1_typeIn 36 = .ok (.iadd, 1) := by decide +kernel
theorem dX1_typeIn_37 : decode cX1_typeIn 37 = .ok (.iload_n 1, 1) := by decide +kernel
theorem dX1_typeIn_38 : decode cX1_typeIn 38 = .ok (.iastore, 1) := by decide +kernel
theorem dX1_typeIn_39 : decode cX1_typeIn 39 = .ok (.aload_n 0, 1) := by decide +kernel
theorem dX1_typeIn_40 : decode cX1_typeIn 40 = .ok (.getfield 16, 3) := by decide +kernel
theorem dX1_typeIn_43 : decode cX1_typeIn 43 = .ok (.iconst 2, 1) := by decide +kernel
theorem dX1_typeIn_44 : decode cX1_typeIn 44 = .ok (.aload_n 0, 1) := by decide +kernel
theorem dX1_typeIn_45 : decode cX1_typeIn 45 = .ok (.getfield 16, 3) := by decide +kernel
theorem dX1_typeIn_48 : decode cX1_typeIn 48 = .ok (.iconst 2, 1) := by decide +kernel
theorem dX1_typeIn_49 : decode cX1_typeIn 49 = .ok (.iaload, 1) := by decide +kernel
theorem dX1_typeIn_50 : decode cX1_typeIn 50 = .ok (.iconst 1, 1) := by decide +kernel
theorem dX1_typeIn_51 : decode cX1_typeIn 51 = .ok (.iadd, 1) := by decide +kernel
theorem dX1_typeIn_52 : decode cX1_typeIn 52 = .ok (.iastore, 1) := by decide +kernel
theorem dX1_typeIn_53 : decode cX1_typeIn 53 = .ok (.aload_n 0, 1) := by decide +kernel
theorem dX1_typeIn_54 : decode cX1_typeIn 54 = .ok (.getfield 16, 3) := by decide +kernel
theorem dX1_typeIn_57 : decode cX1_typeIn 57 = .ok (.iconst 2, 1) := by decide +kernel
theorem dX1_typeIn_58 : decode cX1_typeIn 58 = .ok (.iaload, 1) := by decide +kernel
theorem dX1_typeIn_59 : decode cX1_typeIn 59 = .ok (.ireturn, 1) := by decide +kernel
theorem dX1_badLetter_0 : decode cX1_badLetter 0 = .ok (.iload_n 1, 1) := by decide +kernel
theorem dX1_badLetter_1 : decode cX1_badLetter 1 = .ok (.ifCond .lt 8, 3) := by decide +kernel
theorem dX1_badLetter_4 : decode cX1_badLetter 4 = .ok (.iload_n 1, 1) := by decide +kernel
theorem dX1_badLetter_5 : decode cX1_badLetter 5 = .ok (.iconst 3, 1) := by decide +kernel
theorem dX1_badLetter_6 : decode cX1_badLetter 6 = .ok (.if_icmp .le 7, 3) := by decide +kernel
theorem dX1_badLetter_9 : decode cX1_badLetter 9 = .ok (.iconst 1, 1) := by decide +kernel
theorem dX1_badLetter_10 : decode cX1_badLetter 10 = .ok (.goto 4, 3) := by decide +kernel
theorem dX1_badLetter_13 : decode cX1_badLetter 13 = .ok (.iconst 0, 1) := by decide +kernel
theorem dX1_badLetter_14 : decode cX1_badLetter 14 = .ok (.ireturn, 1) := by decide +kernel
theorem dX1_typeOut_0 : decode cX1_typeOut 0 = .ok (.aload_n 0, 1) := by decide +kernel
theorem dX1_typeOut_1 : decode cX1_typeOut 1 = .ok (.iload_n 1, 1) := by decide +kernel
theorem dX1_typeOut_2 : decode cX1_typeOut 2 = .ok (.invokevirtual 31, 3) := by decide +kernel
theorem dX1_typeOut_5 : decode cX1_typeOut 5 = .ok (.ifCond .eq 5, 3) := by decide +kernel
theorem dX1_typeOut_8 : decode cX1_typeOut 8 = .ok (.iconst (-1), 1) := by decide +kernel
theorem dX1_typeOut_9 : decode cX1_typeOut 9 = .ok (.ireturn, 1) := by decide +kernel
theorem dX1_typeOut_10 : decode cX1_typeOut 10 = .ok (.aload_n 0, 1) := by decide +kernel
theorem dX1_typeOut_11 : decode cX1_typeOut 11 = .ok (.getfield 19, 3) := by decide +kernel
theorem dX1_typeOut_14 : decode cX1_typeOut 14 = .ok (.iconst 2, 1) := by decide +kernel
theorem dX1_typeOut_15 : decode cX1_typeOut 15 = .ok (.iaload, 1) := by decide +kernel
theorem dX1_typeOut_16 : decode cX1_typeOut 16 = .ok (.bipush 6, 2) := by decide +kernel
theorem dX1_typeOut_18 : decode cX1_typeOut 18 = .ok (.if_icmp .ne 6, 3) := by decide +kernel
theorem dX1_typeOut_21 : decode cX1_typeOut 21 = .ok (.bipush (-2), 2) := by decide +kernel
theorem dX1_typeOut_23 : decode cX1_typeOut 23 = .ok (.ireturn, 1) := by decide +kernel
theorem dX1_typeOut_24 : decode cX1_typeOut 24 = .ok (.aload_n 0, 1) := by decide +kernel
theorem dX1_typeOut_25 : decode cX1_typeOut 25 = .ok (.getfield 13, 3) := by decide +kernel
theorem dX1_typeOut_28 : decode cX1_typeOut 28 = .ok (.bipush 12, 2) := by decide +kernel
theorem dX1_typeOut_30 : decode cX1_typeOut 30 = .ok (.aload_n 0, 1) := by decide +kernel
theorem dX1_typeOut_31 : decode cX1_typeOut 31 = .ok (.getfield 19, 3) := by decide +kernel
theorem dX1_typeOut_34 : decode cX1_typeOut 34 = .ok (.iconst 2, 1) := by decide +kernel
theorem dX1_typeOut_35 : decode cX1_typeOut 35 = .ok (.iaload, 1) := by decide +kernel
theorem dX1_typeOut_36 : decode cX1_typeOut 36 = .ok (.iadd, 1) := by decide +kernel
theorem dX1_typeOut_37 : decode cX1_typeOut 37 = .ok (.iload_n 1, 1) := by decide +kernel
theorem dX1_typeOut_38 : decode cX1_typeOut 38 = .ok (.iastore, 1) := by decide +kernel
theorem dX1_typeOut_39 : decode cX1_typeOut 39 = .ok (.aload_n 0, 1) := by decide +kernel
theorem dX1_typeOut_40 : decode cX1_typeOut 40 = .ok (.getfield 19, 3) := by decide +kernel
theorem dX1_typeOut_43 : decode cX1_typeOut 43 = .ok (.iconst 2, 1) := by decide +kernel
theorem dX1_typeOut_44 : decode cX1_typeOut 44 = .ok (.aload_n 0, 1) := by decide +kernel
theorem dX1_typeOut_45 : decode cX1_typeOut 45 = .ok (.getfield 19, 3) := by decide +kernel
theorem dX1_typeOut_48 : decode cX1_typeOut 48 = .ok (.iconst 2, 1) := by decide +kernel
theorem dX1_typeOut_49 : decode cX1_typeOut 49 = .ok (.iaload, 1) := by decide +kernel
theorem dX1_typeOut_50 : decode cX1_typeOut 50 = .ok (.iconst 1, 1) := by decide +kernel
theorem dX1_typeOut_51 : decode cX1_typeOut 51 = .ok (.iadd, 1) := by decide +kernel
theorem dX1_typeOut_52 : decode cX1_typeOut 52 = .ok (.iastore, 1) := by decide +kernel
theorem dX1_typeOut_53 : decode cX1_typeOut 53 = .ok (.aload_n 0, 1) := by decide +kernel
theorem dX1_typeOut_54 : decode cX1_typeOut 54 = .ok (.getfield 19, 3) := by decide +kernel
theorem dX1_typeOut_57 : decode cX1_typeOut 57 = .ok (.iconst 2, 1) := by decide +kernel
theorem dX1_typeOut_58 : decode cX1_typeOut 58 = .ok (.iaload, 1) := by decide +kernel
theorem dX1_typeOut_59 : decode cX1_typeOut 59 = .ok (.ireturn, 1) := by decide +kernel
theorem dX1_erase_0 : decode cX1_erase 0 = .ok (.aload_n 0, 1) := by decide +kernel
theorem dX1_erase_1 : decode cX1_erase 1 = .ok (.getfield 16, 3) := by decide +kernel
theorem dX1_erase_4 : decode cX1_erase 4 = .ok (.iconst 2, 1) := by decide +kernel
theorem dX1_erase_5 : decode cX1_erase 5 = .ok (.iconst 0, 1) := by decide +kernel
theorem dX1_erase_6 : decode cX1_erase 6 = .ok (.iastore, 1) := by decide +kernel
theorem dX1_erase_7 : decode cX1_erase 7 = .ok (.aload_n 0, 1) := by decide +kernel
theorem dX1_erase_8 : decode cX1_erase 8 = .ok (.getfield 19, 3) := by decide +kernel
theorem dX1_erase_11 : decode cX1_erase 11 = .ok (.iconst 2, 1) := by decide +kernel
theorem dX1_erase_12 : decode cX1_erase 12 = .ok (.iconst 0, 1) := by decide +kernel
theorem dX1_erase_13 : decode cX1_erase 13 = .ok (.iastore, 1) := by decide +kernel
theorem dX1_erase_14 : decode cX1_erase 14 = .ok (.return_, 1) := by decide +kernel
theorem dX1_learn_0 : decode cX1_learn 0 = .ok (.aload_n 0, 1) := by decide +kernel
theorem dX1_learn_1 : decode cX1_learn 1 = .ok (.getfield 35, 3) := by decide +kernel
theorem dX1_learn_4 : decode cX1_learn 4 = .ok (.iconst 2, 1) := by decide +kernel
theorem dX1_learn_5 : decode cX1_learn 5 = .ok (.if_icmp .ne 6, 3) := by decide +kernel
theorem dX1_learn_8 : decode cX1_learn 8 = .ok (.bipush (-2), 2) := by decide +kernel
theorem dX1_learn_10 : decode cX1_learn 10 = .ok (.ireturn, 1) := by decide +kernel
theorem dX1_learn_11 : decode cX1_learn 11 = .ok (.iconst 0, 1) := by decide +kernel
theorem dX1_learn_12 : decode cX1_learn 12 = .ok (.istore_n 1, 1) := by decide +kernel
theorem dX1_learn_13 : decode cX1_learn 13 = .ok (.iload_n 1, 1) := by decide +kernel
theorem dX1_learn_14 : decode cX1_learn 14 = .ok (.bipush 6, 2) := by decide +kernel
theorem dX1_learn_16 : decode cX1_learn 16 = .ok (.if_icmp .ge 55, 3) := by decide +kernel
theorem dX1_learn_19 : decode cX1_learn 19 = .ok (.aload_n 0, 1) := by decide +kernel
theorem dX1_learn_20 : decode cX1_learn 20 = .ok (.getfield 7, 3) := by decide +kernel
theorem dX1_learn_23 : decode cX1_learn 23 = .ok (.aload_n 0, 1) := by decide +kernel
theorem dX1_learn_24 : decode cX1_learn 24 = .ok (.getfield 35, 3) := by decide +kernel
theorem dX1_learn_27 : decode cX1_learn 27 = .ok (.bipush 6, 2) := by decide +kernel
theorem dX1_learn_29 : decode cX1_learn 29 = .ok (.imul, 1) := by decide +kernel
theorem dX1_learn_30 : decode cX1_learn 30 = .ok (.iload_n 1, 1) := by decide +kernel
theorem dX1_learn_31 : decode cX1_learn 31 = .ok (.iadd, 1) := by decide +kernel
theorem dX1_learn_32 : decode cX1_learn 32 = .ok (.aload_n 0, 1) := by decide +kernel
theorem dX1_learn_33 : decode cX1_learn 33 = .ok (.getfield 7, 3) := by decide +kernel
theorem dX1_learn_36 : decode cX1_learn 36 = .ok (.bipush 12, 2) := by decide +kernel
theorem dX1_learn_38 : decode cX1_learn 38 = .ok (.iload_n 1, 1) := by decide +kernel
theorem dX1_learn_39 : decode cX1_learn 39 = .ok (.iadd, 1) := by decide +kernel
theorem dX1_learn_40 : decode cX1_learn 40 = .ok (.iaload, 1) := by decide +kernel
theorem dX1_learn_41 : decode cX1_learn 41 = .ok (.iastore, 1) := by decide +kernel
theorem dX1_learn_42 : decode cX1_learn 42 = .ok (.aload_n 0, 1) := by decide +kernel
theorem dX1_learn_43 : decode cX1_learn 43 = .ok (.getfield 13, 3) := by decide +kernel
theorem dX1_learn_46 : decode cX1_learn 46 = .ok (.aload_n 0, 1) := by decide +kernel
theorem dX1_learn_47 : decode cX1_learn 47 = .ok (.getfield 35, 3) := by decide +kernel
theorem dX1_learn_50 : decode cX1_learn 50 = .ok (.bipush 6, 2) := by decide +kernel
theorem dX1_learn_52 : decode cX1_learn 52 = .ok (.imul, 1) := by decide +kernel
theorem dX1_learn_53 : decode cX1_learn 53 = .ok (.iload_n 1, 1) := by decide +kernel
theorem dX1_learn_54 : decode cX1_learn 54 = .ok (.iadd, 1) := by decide +kernel
theorem dX1_learn_55 : decode cX1_learn 55 = .ok (.aload_n 0, 1) := by decide +kernel
theorem dX1_learn_56 : decode cX1_learn 56 = .ok (.getfield 13, 3) := by decide +kernel
theorem dX1_learn_59 : decode cX1_learn 59 = .ok (.bipush 12, 2) := by decide +kernel
theorem dX1_learn_61 : decode cX1_learn 61 = .ok (.iload_n 1, 1) := by decide +kernel
theorem dX1_learn_62 : decode cX1_learn 62 = .ok (.iadd, 1) := by decide +kernel
theorem dX1_learn_63 : decode cX1_learn 63 = .ok (.iaload, 1) := by decide +kernel
theorem dX1_learn_64 : decode cX1_learn 64 = .ok (.iastore, 1) := by decide +kernel
theorem dX1_learn_65 : decode cX1_learn 65 = .ok (.iinc 1 1, 3) := by decide +kernel
theorem dX1_learn_68 : decode cX1_learn 68 = .ok (.goto (-55), 3) := by decide +kernel
theorem dX1_learn_71 : decode cX1_learn 71 = .ok (.aload_n 0, 1) := by decide +kernel
theorem dX1_learn_72 : decode cX1_learn 72 = .ok (.getfield 16, 3) := by decide +kernel
theorem dX1_learn_75 : decode cX1_learn 75 = .ok (.aload_n 0, 1) := by decide +kernel
theorem dX1_learn_76 : decode cX1_learn 76 = .ok (.getfield 35, 3) := by decide +kernel
theorem dX1_learn_79 : decode cX1_learn 79 = .ok (.aload_n 0, 1) := by decide +kernel
theorem dX1_learn_80 : decode cX1_learn 80 = .ok (.getfield 16, 3) := by decide +kernel
theorem dX1_learn_83 : decode cX1_learn 83 = .ok (.iconst 2, 1) := by decide +kernel
theorem dX1_learn_84 : decode cX1_learn 84 = .ok (.iaload, 1) := by decide +kernel
theorem dX1_learn_85 : decode cX1_learn 85 = .ok (.iastore, 1) := by decide +kernel
theorem dX1_learn_86 : decode cX1_learn 86 = .ok (.aload_n 0, 1) := by decide +kernel
theorem dX1_learn_87 : decode cX1_learn 87 = .ok (.getfield 19, 3) := by decide +kernel
theorem dX1_learn_90 : decode cX1_learn 90 = .ok (.aload_n 0, 1) := by decide +kernel
theorem dX1_learn_91 : decode cX1_learn 91 = .ok (.getfield 35, 3) := by decide +kernel
theorem dX1_learn_94 : decode cX1_learn 94 = .ok (.aload_n 0, 1) := by decide +kernel
theorem dX1_learn_95 : decode cX1_learn 95 = .ok (.getfield 19, 3) := by decide +kernel
theorem dX1_learn_98 : decode cX1_learn 98 = .ok (.iconst 2, 1) := by decide +kernel
theorem dX1_learn_99 : decode cX1_learn 99 = .ok (.iaload, 1) := by decide +kernel
theorem dX1_learn_100 : decode cX1_learn 100 = .ok (.iastore, 1) := by decide +kernel
theorem dX1_learn_101 : decode cX1_learn 101 = .ok (.aload_n 0, 1) := by decide +kernel
theorem dX1_learn_102 : decode cX1_learn 102 = .ok (.aload_n 0, 1) := by decide +kernel
theorem dX1_learn_103 : decode cX1_learn 103 = .ok (.getfield 35, 3) := by decide +kernel
theorem dX1_learn_106 : decode cX1_learn 106 = .ok (.iconst 1, 1) := by decide +kernel
theorem dX1_learn_107 : decode cX1_learn 107 = .ok (.iadd, 1) := by decide +kernel
theorem dX1_learn_108 : decode cX1_learn 108 = .ok (.putfield 35, 3) := by decide +kernel
theorem dX1_learn_111 : decode cX1_learn 111 = .ok (.aload_n 0, 1) := by decide +kernel
theorem dX1_learn_112 : decode cX1_learn 112 = .ok (.getfield 35, 3) := by decide +kernel
theorem dX1_learn_115 : decode cX1_learn 115 = .ok (.ireturn, 1) := by decide +kernel
theorem dX1_forget_0 : decode cX1_forget 0 = .ok (.aload_n 0, 1) := by decide +kernel
theorem dX1_forget_1 : decode cX1_forget 1 = .ok (.getfield 35, 3) := by decide +kernel
theorem dX1_forget_4 : decode cX1_forget 4 = .ok (.ifCond .ne 6, 3) := by decide +kernel
theorem dX1_forget_7 : decode cX1_forget 7 = .ok (.bipush (-3), 2) := by decide +kernel
theorem dX1_forget_9 : decode cX1_forget 9 = .ok (.ireturn, 1) := by decide +kernel
theorem dX1_forget_10 : decode cX1_forget 10 = .ok (.aload_n 0, 1) := by decide +kernel
theorem dX1_forget_11 : decode cX1_forget 11 = .ok (.aload_n 0, 1) := by decide +kernel
theorem dX1_forget_12 : decode cX1_forget 12 = .ok (.getfield 35, 3) := by decide +kernel
theorem dX1_forget_15 : decode cX1_forget 15 = .ok (.iconst 1, 1) := by decide +kernel
theorem dX1_forget_16 : decode cX1_forget 16 = .ok (.isub, 1) := by decide +kernel
theorem dX1_forget_17 : decode cX1_forget 17 = .ok (.putfield 35, 3) := by decide +kernel
theorem dX1_forget_20 : decode cX1_forget 20 = .ok (.aload_n 0, 1) := by decide +kernel
theorem dX1_forget_21 : decode cX1_forget 21 = .ok (.getfield 35, 3) := by decide +kernel
theorem dX1_forget_24 : decode cX1_forget 24 = .ok (.ireturn, 1) := by decide +kernel
theorem dX1_least_0 : decode cX1_least 0 = .ok (.iconst 1, 1) := by decide +kernel
theorem dX1_least_1 : decode cX1_least 1 = .ok (.istore_n 1, 1) := by decide +kernel
theorem dX1_least_2 : decode cX1_least 2 = .ok (.iload_n 1, 1) := by decide +kernel
theorem dX1_least_3 : decode cX1_least 3 = .ok (.iconst 4, 1) := by decide +kernel
theorem dX1_least_4 : decode cX1_least 4 = .ok (.if_icmp .ge 20, 3) := by decide +kernel
theorem dX1_least_7 : decode cX1_least 7 = .ok (.aload_n 0, 1) := by decide +kernel
theorem dX1_least_8 : decode cX1_least 8 = .ok (.iload_n 1, 1) := by decide +kernel
theorem dX1_least_9 : decode cX1_least 9 = .ok (.iconst 0, 1) := by decide +kernel
theorem dX1_least_10 : decode cX1_least 10 = .ok (.invokevirtual 81, 3) := by decide +kernel
theorem dX1_least_13 : decode cX1_least 13 = .ok (.ifCond .le 5, 3) := by decide +kernel
theorem dX1_least_16 : decode cX1_least 16 = .ok (.iload_n 1, 1) := by decide +kernel
theorem dX1_least_17 : decode cX1_least 17 = .ok (.ireturn, 1) := by decide +kernel
theorem dX1_least_18 : decode cX1_least 18 = .ok (.iinc 1 1, 3) := by decide +kernel
theorem dX1_least_21 : decode cX1_least 21 = .ok (.goto (-19), 3) := by decide +kernel
theorem dX1_least_24 : decode cX1_least 24 = .ok (.bipush (-3), 2) := by decide +kernel
theorem dX1_least_26 : decode cX1_least 26 = .ok (.ireturn, 1) := by decide +kernel
theorem dX1_search_0 : decode cX1_search 0 = .ok (.aload_n 0, 1) := by decide +kernel
theorem dX1_search_1 : decode cX1_search 1 = .ok (.iconst 0, 1) := by decide +kernel
theorem dX1_search_2 : decode cX1_search 2 = .ok (.putfield 57, 3) := by decide +kernel
theorem dX1_search_5 : decode cX1_search 5 = .ok (.aload_n 0, 1) := by decide +kernel
theorem dX1_search_6 : decode cX1_search 6 = .ok (.getfield 35, 3) := by decide +kernel
theorem dX1_search_9 : decode cX1_search 9 = .ok (.ifCond .ne 56, 3) := by decide +kernel
theorem dX1_search_12 : decode cX1_search 12 = .ok (.iload_n 2, 1) := by decide +kernel
theorem dX1_search_13 : decode cX1_search 13 = .ok (.ifCond .ne 52, 3) := by decide +kernel
theorem dX1_search_16 : decode cX1_search 16 = .ok (.aload_n 0, 1) := by decide +kernel
theorem dX1_search_17 : decode cX1_search 17 = .ok (.iconst 0, 1) := by decide +kernel
theorem dX1_search_18 : decode cX1_search 18 = .ok (.iload_n 1, 1) := by decide +kernel
theorem dX1_search_19 : decode cX1_search 19 = .ok (.iconst 1, 1) := by decide +kernel
theorem dX1_search_20 : decode cX1_search 20 = .ok (.if_icmp .le 7, 3) := by decide +kernel
theorem dX1_search_23 : decode cX1_search 23 = .ok (.iconst 0, 1) := by decide +kernel
theorem dX1_search_24 : decode cX1_search 24 = .ok (.goto 4, 3) := by decide +kernel
theorem dX1_search_27 : decode cX1_search 27 = .ok (.iconst (-1), 1) := by decide +kernel
theorem dX1_search_28 : decode cX1_search 28 = .ok (.iload_n 1, 1) := by decide +kernel
theorem dX1_search_29 : decode cX1_search 29 = .ok (.iconst 2, 1) := by decide +kernel
theorem dX1_search_30 : decode cX1_search 30 = .ok (.if_icmp .le 7, 3) := by decide +kernel
theorem dX1_search_33 : decode cX1_search 33 = .ok (.iconst 0, 1) := by decide +kernel
theorem dX1_search_34 : decode cX1_search 34 = .ok (.goto 4, 3) := by decide +kernel
theorem dX1_search_37 : decode cX1_search 37 = .ok (.iconst (-1), 1) := by decide +kernel
theorem dX1_search_38 : decode cX1_search 38 = .ok (.invokevirtual 68, 3) := by decide +kernel
theorem dX1_search_41 : decode cX1_search 41 = .ok (.iload_n 1, 1) := by decide +kernel
theorem dX1_search_42 : decode cX1_search 42 = .ok (.iconst 1, 1) := by decide +kernel
theorem dX1_search_43 : decode cX1_search 43 = .ok (.if_icmp .ne 9, 3) := by decide +kernel
theorem dX1_search_46 : decode cX1_search 46 = .ok (.sipush 200, 3) := by decide +kernel
theorem dX1_search_49 : decode cX1_search 49 = .ok (.goto 15, 3) := by decide +kernel
theorem dX1_search_52 : decode cX1_search 52 = .ok (.iload_n 1, 1) := by decide +kernel
theorem dX1_search_53 : decode cX1_search 53 = .ok (.iconst 2, 1) := by decide +kernel
theorem dX1_search_54 : decode cX1_search 54 = .ok (.if_icmp .ne 8, 3) := by decide +kernel
theorem dX1_search_57 : decode cX1_search 57 = .ok (.ldc 76, 2) := by decide +kernel
theorem dX1_search_59 : decode cX1_search 59 = .ok (.goto 5, 3) := by decide +kernel
theorem dX1_search_62 : decode cX1_search 62 = .ok (.ldc 77, 2) := by decide +kernel
theorem dX1_search_64 : decode cX1_search 64 = .ok (.ireturn, 1) := by decide +kernel
theorem dX1_search_65 : decode cX1_search 65 = .ok (.aload_n 0, 1) := by decide +kernel
theorem dX1_search_66 : decode cX1_search 66 = .ok (.getfield 22, 3) := by decide +kernel
theorem dX1_search_69 : decode cX1_search 69 = .ok (.iconst 0, 1) := by decide +kernel
theorem dX1_search_70 : decode cX1_search 70 = .ok (.iconst 0, 1) := by decide +kernel
theorem dX1_search_71 : decode cX1_search 71 = .ok (.iastore, 1) := by decide +kernel
theorem dX1_search_72 : decode cX1_search 72 = .ok (.aload_n 0, 1) := by decide +kernel
theorem dX1_search_73 : decode cX1_search 73 = .ok (.getfield 22, 3) := by decide +kernel
theorem dX1_search_76 : decode cX1_search 76 = .ok (.iconst 1, 1) := by decide +kernel
theorem dX1_search_77 : decode cX1_search 77 = .ok (.iconst 0, 1) := by decide +kernel
theorem dX1_search_78 : decode cX1_search 78 = .ok (.iastore, 1) := by decide +kernel
theorem dX1_search_79 : decode cX1_search 79 = .ok (.aload_n 0, 1) := by decide +kernel
theorem dX1_search_80 : decode cX1_search 80 = .ok (.getfield 22, 3) := by decide +kernel
theorem dX1_search_83 : decode cX1_search 83 = .ok (.iconst 2, 1) := by decide +kernel
theorem dX1_search_84 : decode cX1_search 84 = .ok (.iconst 0, 1) := by decide +kernel
theorem dX1_search_85 : decode cX1_search 85 = .ok (.iastore, 1) := by decide +kernel
theorem dX1_search_86 : decode cX1_search 86 = .ok (.iconst 0, 1) := by decide +kernel
theorem dX1_search_87 : decode cX1_search 87 = .ok (.istore_n 3, 1) := by decide +kernel
theorem dX1_search_88 : decode cX1_search 88 = .ok (.iconst 0, 1) := by decide +kernel
theorem dX1_search_89 : decode cX1_search 89 = .ok (.istore 4, 2) := by decide +kernel
theorem dX1_search_91 : decode cX1_search 91 = .ok (.iload 4, 2) := by decide +kernel
theorem dX1_search_93 : decode cX1_search 93 = .ok (.sipush 200, 3) := by decide +kernel
theorem dX1_search_96 : decode cX1_search 96 = .ok (.if_icmp .ge 63, 3) := by decide +kernel
theorem dX1_search_99 : decode cX1_search 99 = .ok (.aload_n 0, 1) := by decide +kernel
theorem dX1_search_100 : decode cX1_search 100 = .ok (.iload 4, 2) := by decide +kernel
theorem dX1_search_102 : decode cX1_search 102 = .ok (.iconst 0, 1) := by decide +kernel
theorem dX1_search_103 : decode cX1_search 103 = .ok (.iload_n 2, 1) := by decide +kernel
theorem dX1_search_104 : decode cX1_search 104 = .ok (.invokevirtual 61, 3) := by decide +kernel
theorem dX1_search_107 : decode cX1_search 107 = .ok (.ifCond .eq 46, 3) := by decide +kernel
theorem dX1_search_110 : decode cX1_search 110 = .ok (.iload_n 1, 1) := by decide +kernel
theorem dX1_search_111 : decode cX1_search 111 = .ok (.iconst 1, 1) := by decide +kernel
theorem dX1_search_112 : decode cX1_search 112 = .ok (.if_icmp .le 21, 3) := by decide +kernel
theorem dX1_search_115 : decode cX1_search 115 = .ok (.aload_n 0, 1) := by decide +kernel
theorem dX1_search_116 : decode cX1_search 116 = .ok (.iload 4, 2) := by decide +kernel
theorem dX1_search_118 : decode cX1_search 118 = .ok (.iload_n 1, 1) := by decide +kernel
theorem dX1_search_119 : decode cX1_search 119 = .ok (.iload_n 2, 1) := by decide +kernel
theorem dX1_search_120 : decode cX1_search 120 = .ok (.invokevirtual 78, 3) := by decide +kernel
theorem dX1_search_123 : decode cX1_search 123 = .ok (.istore 5, 2) := by decide +kernel
theorem dX1_search_125 : decode cX1_search 125 = .ok (.iload_n 3, 1) := by decide +kernel
theorem dX1_search_126 : decode cX1_search 126 = .ok (.iload 5, 2) := by decide +kernel
theorem dX1_search_128 : decode cX1_search 128 = .ok (.iadd, 1) := by decide +kernel
theorem dX1_search_129 : decode cX1_search 129 = .ok (.istore_n 3, 1) := by decide +kernel
theorem dX1_search_130 : decode cX1_search 130 = .ok (.goto 23, 3) := by decide +kernel
theorem dX1_search_133 : decode cX1_search 133 = .ok (.aload_n 0, 1) := by decide +kernel
theorem dX1_search_134 : decode cX1_search 134 = .ok (.iconst 1, 1) := by decide +kernel
theorem dX1_search_135 : decode cX1_search 135 = .ok (.iload_n 2, 1) := by decide +kernel
theorem dX1_search_136 : decode cX1_search 136 = .ok (.invokevirtual 65, 3) := by decide +kernel
theorem dX1_search_139 : decode cX1_search 139 = .ok (.ifCond .eq 14, 3) := by decide +kernel
theorem dX1_search_142 : decode cX1_search 142 = .ok (.aload_n 0, 1) := by decide +kernel
theorem dX1_search_143 : decode cX1_search 143 = .ok (.iload 4, 2) := by decide +kernel
theorem dX1_search_145 : decode cX1_search 145 = .ok (.iconst (-1), 1) := by decide +kernel
theorem dX1_search_146 : decode cX1_search 146 = .ok (.iconst (-1), 1) := by decide +kernel
theorem dX1_search_147 : decode cX1_search 147 = .ok (.invokevirtual 68, 3) := by decide +kernel
theorem dX1_search_150 : decode cX1_search 150 = .ok (.iinc 3 1, 3) := by decide +kernel
theorem dX1_search_153 : decode cX1_search 153 = .ok (.iinc 4 1, 3) := by decide +kernel
theorem dX1_search_156 : decode cX1_search 156 = .ok (.goto (-65), 3) := by decide +kernel
theorem dX1_search_159 : decode cX1_search 159 = .ok (.iload_n 3, 1) := by decide +kernel
theorem dX1_search_160 : decode cX1_search 160 = .ok (.ireturn, 1) := by decide +kernel
theorem dX1_note_0 : decode cX1_note 0 = .ok (.aload_n 0, 1) := by decide +kernel
theorem dX1_note_1 : decode cX1_note 1 = .ok (.getfield 57, 3) := by decide +kernel
theorem dX1_note_4 : decode cX1_note 4 = .ok (.ifCond .ne 29, 3) := by decide +kernel
theorem dX1_note_7 : decode cX1_note 7 = .ok (.aload_n 0, 1) := by decide +kernel
theorem dX1_note_8 : decode cX1_note 8 = .ok (.iconst 1, 1) := by decide +kernel
theorem dX1_note_9 : decode cX1_note 9 = .ok (.putfield 57, 3) := by decide +kernel
theorem dX1_note_12 : decode cX1_note 12 = .ok (.aload_n 0, 1) := by decide +kernel
theorem dX1_note_13 : decode cX1_note 13 = .ok (.getfield 25, 3) := by decide +kernel
theorem dX1_note_16 : decode cX1_note 16 = .ok (.iconst 0, 1) := by decide +kernel
theorem dX1_note_17 : decode cX1_note 17 = .ok (.iload_n 1, 1) := by decide +kernel
theorem dX1_note_18 : decode cX1_note 18 = .ok (.iastore, 1) := by decide +kernel
theorem dX1_note_19 : decode cX1_note 19 = .ok (.aload_n 0, 1) := by decide +kernel
theorem dX1_note_20 : decode cX1_note 20 = .ok (.getfield 25, 3) := by decide +kernel
theorem dX1_note_23 : decode cX1_note 23 = .ok (.iconst 1, 1) := by decide +kernel
theorem dX1_note_24 : decode cX1_note 24 = .ok (.iload_n 2, 1) := by decide +kernel
theorem dX1_note_25 : decode cX1_note 25 = .ok (.iastore, 1) := by decide +kernel
theorem dX1_note_26 : decode cX1_note 26 = .ok (.aload_n 0, 1) := by decide +kernel
theorem dX1_note_27 : decode cX1_note 27 = .ok (.getfield 25, 3) := by decide +kernel
theorem dX1_note_30 : decode cX1_note 30 = .ok (.iconst 2, 1) := by decide +kernel
theorem dX1_note_31 : decode cX1_note 31 = .ok (.iload_n 3, 1) := by decide +kernel
theorem dX1_note_32 : decode cX1_note 32 = .ok (.iastore, 1) := by decide +kernel
theorem dX1_note_33 : decode cX1_note 33 = .ok (.return_, 1) := by decide +kernel
theorem dX1_put_0 : decode cX1_put 0 = .ok (.iconst 0, 1) := by decide +kernel
theorem dX1_put_1 : decode cX1_put 1 = .ok (.istore 4, 2) := by decide +kernel
theorem dX1_put_3 : decode cX1_put 3 = .ok (.iload 4, 2) := by decide +kernel
theorem dX1_put_5 : decode cX1_put 5 = .ok (.iconst 3, 1) := by decide +kernel
theorem dX1_put_6 : decode cX1_put 6 = .ok (.if_icmp .ge 61, 3) := by decide +kernel
theorem dX1_put_9 : decode cX1_put 9 = .ok (.aload_n 0, 1) := by decide +kernel
theorem dX1_put_10 : decode cX1_put 10 = .ok (.iload 4, 2) := by decide +kernel
end
section
set_option maxRecDepth 100000
theorem dX1_put_12 : decode cX1_put 12 = .ok (.iload_n 3, 1) := by decide +kernel
theorem dX1_put_13 : decode cX1_put 13 = .ok (.invokevirtual 50, 3) := by decide +kernel
theorem dX1_put_16 : decode cX1_put 16 = .ok (.ifCond .eq 45, 3) := by decide +kernel
theorem dX1_put_19 : decode cX1_put 19 = .ok (.aload_n 0, 1) := by decide +kernel
theorem dX1_put_20 : decode cX1_put 20 = .ok (.iload_n 1, 1) := by decide +kernel
theorem dX1_put_21 : decode cX1_put 21 = .ok (.iload 4, 2) := by decide +kernel
theorem dX1_put_23 : decode cX1_put 23 = .ok (.aload_n 0, 1) := by decide +kernel
theorem dX1_put_24 : decode cX1_put 24 = .ok (.getfield 22, 3) := by decide +kernel
theorem dX1_put_27 : decode cX1_put 27 = .ok (.iload_n 2, 1) := by decide +kernel
theorem dX1_put_28 : decode cX1_put 28 = .ok (.iconst 3, 1) := by decide +kernel
theorem dX1_put_29 : decode cX1_put 29 = .ok (.imul, 1) := by decide +kernel
theorem dX1_put_30 : decode cX1_put 30 = .ok (.iload 4, 2) := by decide +kernel
theorem dX1_put_32 : decode cX1_put 32 = .ok (.iadd, 1) := by decide +kernel
theorem dX1_put_33 : decode cX1_put 33 = .ok (.iaload, 1) := by decide +kernel
theorem dX1_put_34 : decode cX1_put 34 = .ok (.invokevirtual 54, 3) := by decide +kernel
theorem dX1_put_37 : decode cX1_put 37 = .ok (.istore 5, 2) := by decide +kernel
theorem dX1_put_39 : decode cX1_put 39 = .ok (.iload 5, 2) := by decide +kernel
theorem dX1_put_41 : decode cX1_put 41 = .ok (.ifCond .ge 5, 3) := by decide +kernel
theorem dX1_put_44 : decode cX1_put 44 = .ok (.iconst 0, 1) := by decide +kernel
theorem dX1_put_45 : decode cX1_put 45 = .ok (.ireturn, 1) := by decide +kernel
theorem dX1_put_46 : decode cX1_put 46 = .ok (.aload_n 0, 1) := by decide +kernel
theorem dX1_put_47 : decode cX1_put 47 = .ok (.getfield 22, 3) := by decide +kernel
theorem dX1_put_50 : decode cX1_put 50 = .ok (.iload_n 2, 1) := by decide +kernel
theorem dX1_put_51 : decode cX1_put 51 = .ok (.iconst 3, 1) := by decide +kernel
theorem dX1_put_52 : decode cX1_put 52 = .ok (.imul, 1) := by decide +kernel
theorem dX1_put_53 : decode cX1_put 53 = .ok (.iconst 3, 1) := by decide +kernel
theorem dX1_put_54 : decode cX1_put 54 = .ok (.iadd, 1) := by decide +kernel
theorem dX1_put_55 : decode cX1_put 55 = .ok (.iload 4, 2) := by decide +kernel
theorem dX1_put_57 : decode cX1_put 57 = .ok (.iadd, 1) := by decide +kernel
theorem dX1_put_58 : decode cX1_put 58 = .ok (.iload 5, 2) := by decide +kernel
theorem dX1_put_60 : decode cX1_put 60 = .ok (.iastore, 1) := by decide +kernel
theorem dX1_put_61 : decode cX1_put 61 = .ok (.iinc 4 1, 3) := by decide +kernel
theorem dX1_put_64 : decode cX1_put 64 = .ok (.goto (-61), 3) := by decide +kernel
theorem dX1_put_67 : decode cX1_put 67 = .ok (.iconst 1, 1) := by decide +kernel
theorem dX1_put_68 : decode cX1_put 68 = .ok (.ireturn, 1) := by decide +kernel
theorem dX1_counts_0 : decode cX1_counts 0 = .ok (.iload_n 1, 1) := by decide +kernel
theorem dX1_counts_1 : decode cX1_counts 1 = .ok (.aload_n 0, 1) := by decide +kernel
theorem dX1_counts_2 : decode cX1_counts 2 = .ok (.getfield 35, 3) := by decide +kernel
theorem dX1_counts_5 : decode cX1_counts 5 = .ok (.if_icmp .lt 12, 3) := by decide +kernel
theorem dX1_counts_8 : decode cX1_counts 8 = .ok (.iload_n 1, 1) := by decide +kernel
theorem dX1_counts_9 : decode cX1_counts 9 = .ok (.iconst 2, 1) := by decide +kernel
theorem dX1_counts_10 : decode cX1_counts 10 = .ok (.if_icmp .ne 11, 3) := by decide +kernel
theorem dX1_counts_13 : decode cX1_counts 13 = .ok (.iload_n 2, 1) := by decide +kernel
theorem dX1_counts_14 : decode cX1_counts 14 = .ok (.ifCond .eq 7, 3) := by decide +kernel
theorem dX1_counts_17 : decode cX1_counts 17 = .ok (.iconst 1, 1) := by decide +kernel
theorem dX1_counts_18 : decode cX1_counts 18 = .ok (.goto 4, 3) := by decide +kernel
theorem dX1_counts_21 : decode cX1_counts 21 = .ok (.iconst 0, 1) := by decide +kernel
theorem dX1_counts_22 : decode cX1_counts 22 = .ok (.ireturn, 1) := by decide +kernel
theorem dX1_after_0 : decode cX1_after 0 = .ok (.aload_n 0, 1) := by decide +kernel
theorem dX1_after_1 : decode cX1_after 1 = .ok (.iload_n 1, 1) := by decide +kernel
theorem dX1_after_2 : decode cX1_after 2 = .ok (.iload_n 2, 1) := by decide +kernel
theorem dX1_after_3 : decode cX1_after 3 = .ok (.invokevirtual 43, 3) := by decide +kernel
theorem dX1_after_6 : decode cX1_after 6 = .ok (.istore 4, 2) := by decide +kernel
theorem dX1_after_8 : decode cX1_after 8 = .ok (.iload 4, 2) := by decide +kernel
theorem dX1_after_10 : decode cX1_after 10 = .ok (.ifCond .eq 20, 3) := by decide +kernel
theorem dX1_after_13 : decode cX1_after 13 = .ok (.iload_n 3, 1) := by decide +kernel
theorem dX1_after_14 : decode cX1_after 14 = .ok (.ifCond .lt 16, 3) := by decide +kernel
theorem dX1_after_17 : decode cX1_after 17 = .ok (.iload_n 3, 1) := by decide +kernel
theorem dX1_after_18 : decode cX1_after 18 = .ok (.iload 4, 2) := by decide +kernel
theorem dX1_after_20 : decode cX1_after 20 = .ok (.iadd, 1) := by decide +kernel
theorem dX1_after_21 : decode cX1_after 21 = .ok (.aload_n 0, 1) := by decide +kernel
theorem dX1_after_22 : decode cX1_after 22 = .ok (.getfield 19, 3) := by decide +kernel
theorem dX1_after_25 : decode cX1_after 25 = .ok (.iload_n 2, 1) := by decide +kernel
theorem dX1_after_26 : decode cX1_after 26 = .ok (.iaload, 1) := by decide +kernel
theorem dX1_after_27 : decode cX1_after 27 = .ok (.if_icmp .le 5, 3) := by decide +kernel
theorem dX1_after_30 : decode cX1_after 30 = .ok (.iconst (-1), 1) := by decide +kernel
theorem dX1_after_31 : decode cX1_after 31 = .ok (.ireturn, 1) := by decide +kernel
theorem dX1_after_32 : decode cX1_after 32 = .ok (.iconst 0, 1) := by decide +kernel
theorem dX1_after_33 : decode cX1_after 33 = .ok (.istore 5, 2) := by decide +kernel
theorem dX1_after_35 : decode cX1_after 35 = .ok (.iload 5, 2) := by decide +kernel
theorem dX1_after_37 : decode cX1_after 37 = .ok (.iload 4, 2) := by decide +kernel
theorem dX1_after_39 : decode cX1_after 39 = .ok (.if_icmp .ge 36, 3) := by decide +kernel
theorem dX1_after_42 : decode cX1_after 42 = .ok (.aload_n 0, 1) := by decide +kernel
theorem dX1_after_43 : decode cX1_after 43 = .ok (.iload_n 1, 1) := by decide +kernel
theorem dX1_after_44 : decode cX1_after 44 = .ok (.iload_n 2, 1) := by decide +kernel
theorem dX1_after_45 : decode cX1_after 45 = .ok (.iload 5, 2) := by decide +kernel
theorem dX1_after_47 : decode cX1_after 47 = .ok (.invokevirtual 46, 3) := by decide +kernel
theorem dX1_after_50 : decode cX1_after 50 = .ok (.aload_n 0, 1) := by decide +kernel
theorem dX1_after_51 : decode cX1_after 51 = .ok (.getfield 13, 3) := by decide +kernel
theorem dX1_after_54 : decode cX1_after 54 = .ok (.iload_n 2, 1) := by decide +kernel
theorem dX1_after_55 : decode cX1_after 55 = .ok (.bipush 6, 2) := by decide +kernel
theorem dX1_after_57 : decode cX1_after 57 = .ok (.imul, 1) := by decide +kernel
theorem dX1_after_58 : decode cX1_after 58 = .ok (.iload_n 3, 1) := by decide +kernel
theorem dX1_after_59 : decode cX1_after 59 = .ok (.iadd, 1) := by decide +kernel
theorem dX1_after_60 : decode cX1_after 60 = .ok (.iload 5, 2) := by decide +kernel
theorem dX1_after_62 : decode cX1_after 62 = .ok (.iadd, 1) := by decide +kernel
theorem dX1_after_63 : decode cX1_after 63 = .ok (.iaload, 1) := by decide +kernel
theorem dX1_after_64 : decode cX1_after 64 = .ok (.if_icmp .eq 5, 3) := by decide +kernel
theorem dX1_after_67 : decode cX1_after 67 = .ok (.iconst (-1), 1) := by decide +kernel
theorem dX1_after_68 : decode cX1_after 68 = .ok (.ireturn, 1) := by decide +kernel
theorem dX1_after_69 : decode cX1_after 69 = .ok (.iinc 5 1, 3) := by decide +kernel
theorem dX1_after_72 : decode cX1_after 72 = .ok (.goto (-37), 3) := by decide +kernel
theorem dX1_after_75 : decode cX1_after 75 = .ok (.iload_n 3, 1) := by decide +kernel
theorem dX1_after_76 : decode cX1_after 76 = .ok (.iload 4, 2) := by decide +kernel
theorem dX1_after_78 : decode cX1_after 78 = .ok (.iadd, 1) := by decide +kernel
theorem dX1_after_79 : decode cX1_after 79 = .ok (.ireturn, 1) := by decide +kernel
theorem dX1_size_0 : decode cX1_size 0 = .ok (.iload_n 1, 1) := by decide +kernel
theorem dX1_size_1 : decode cX1_size 1 = .ok (.iconst 4, 1) := by decide +kernel
theorem dX1_size_2 : decode cX1_size 2 = .ok (.if_icmp .ge 5, 3) := by decide +kernel
theorem dX1_size_5 : decode cX1_size 5 = .ok (.iconst 1, 1) := by decide +kernel
theorem dX1_size_6 : decode cX1_size 6 = .ok (.ireturn, 1) := by decide +kernel
theorem dX1_size_7 : decode cX1_size 7 = .ok (.aload_n 0, 1) := by decide +kernel
theorem dX1_size_8 : decode cX1_size 8 = .ok (.iload_n 1, 1) := by decide +kernel
theorem dX1_size_9 : decode cX1_size 9 = .ok (.iconst 4, 1) := by decide +kernel
theorem dX1_size_10 : decode cX1_size 10 = .ok (.isub, 1) := by decide +kernel
theorem dX1_size_11 : decode cX1_size 11 = .ok (.bipush 14, 2) := by decide +kernel
theorem dX1_size_13 : decode cX1_size 13 = .ok (.idiv, 1) := by decide +kernel
theorem dX1_size_14 : decode cX1_size 14 = .ok (.aload_n 0, 1) := by decide +kernel
theorem dX1_size_15 : decode cX1_size 15 = .ok (.getfield 16, 3) := by decide +kernel
theorem dX1_size_18 : decode cX1_size 18 = .ok (.iload_n 2, 1) := by decide +kernel
theorem dX1_size_19 : decode cX1_size 19 = .ok (.iaload, 1) := by decide +kernel
theorem dX1_size_20 : decode cX1_size 20 = .ok (.invokevirtual 39, 3) := by decide +kernel
theorem dX1_size_23 : decode cX1_size 23 = .ok (.istore_n 3, 1) := by decide +kernel
theorem dX1_size_24 : decode cX1_size 24 = .ok (.aload_n 0, 1) := by decide +kernel
theorem dX1_size_25 : decode cX1_size 25 = .ok (.iload_n 1, 1) := by decide +kernel
theorem dX1_size_26 : decode cX1_size 26 = .ok (.iconst 4, 1) := by decide +kernel
theorem dX1_size_27 : decode cX1_size 27 = .ok (.isub, 1) := by decide +kernel
theorem dX1_size_28 : decode cX1_size 28 = .ok (.bipush 14, 2) := by decide +kernel
theorem dX1_size_30 : decode cX1_size 30 = .ok (.irem, 1) := by decide +kernel
theorem dX1_size_31 : decode cX1_size 31 = .ok (.aload_n 0, 1) := by decide +kernel
theorem dX1_size_32 : decode cX1_size 32 = .ok (.getfield 16, 3) := by decide +kernel
theorem dX1_size_35 : decode cX1_size 35 = .ok (.iload_n 2, 1) := by decide +kernel
theorem dX1_size_36 : decode cX1_size 36 = .ok (.iaload, 1) := by decide +kernel
theorem dX1_size_37 : decode cX1_size 37 = .ok (.invokevirtual 39, 3) := by decide +kernel
theorem dX1_size_40 : decode cX1_size 40 = .ok (.istore 4, 2) := by decide +kernel
theorem dX1_size_42 : decode cX1_size 42 = .ok (.iload_n 3, 1) := by decide +kernel
theorem dX1_size_43 : decode cX1_size 43 = .ok (.ifCond .lt 16, 3) := by decide +kernel
theorem dX1_size_46 : decode cX1_size 46 = .ok (.iload 4, 2) := by decide +kernel
theorem dX1_size_48 : decode cX1_size 48 = .ok (.iload_n 3, 1) := by decide +kernel
theorem dX1_size_49 : decode cX1_size 49 = .ok (.if_icmp .le 10, 3) := by decide +kernel
theorem dX1_size_52 : decode cX1_size 52 = .ok (.iload 4, 2) := by decide +kernel
theorem dX1_size_54 : decode cX1_size 54 = .ok (.iload_n 3, 1) := by decide +kernel
theorem dX1_size_55 : decode cX1_size 55 = .ok (.isub, 1) := by decide +kernel
theorem dX1_size_56 : decode cX1_size 56 = .ok (.goto 4, 3) := by decide +kernel
theorem dX1_size_59 : decode cX1_size 59 = .ok (.iconst 0, 1) := by decide +kernel
theorem dX1_size_60 : decode cX1_size 60 = .ok (.ireturn, 1) := by decide +kernel
theorem dX1_place_0 : decode cX1_place 0 = .ok (.iload_n 1, 1) := by decide +kernel
theorem dX1_place_1 : decode cX1_place 1 = .ok (.bipush 7, 2) := by decide +kernel
theorem dX1_place_3 : decode cX1_place 3 = .ok (.if_icmp .ge 14, 3) := by decide +kernel
theorem dX1_place_6 : decode cX1_place 6 = .ok (.iload_n 1, 1) := by decide +kernel
theorem dX1_place_7 : decode cX1_place 7 = .ok (.iload_n 2, 1) := by decide +kernel
theorem dX1_place_8 : decode cX1_place 8 = .ok (.if_icmp .gt 7, 3) := by decide +kernel
theorem dX1_place_11 : decode cX1_place 11 = .ok (.iload_n 1, 1) := by decide +kernel
theorem dX1_place_12 : decode cX1_place 12 = .ok (.goto 4, 3) := by decide +kernel
theorem dX1_place_15 : decode cX1_place 15 = .ok (.iconst (-1), 1) := by decide +kernel
theorem dX1_place_16 : decode cX1_place 16 = .ok (.ireturn, 1) := by decide +kernel
theorem dX1_place_17 : decode cX1_place 17 = .ok (.iload_n 1, 1) := by decide +kernel
theorem dX1_place_18 : decode cX1_place 18 = .ok (.bipush 7, 2) := by decide +kernel
theorem dX1_place_20 : decode cX1_place 20 = .ok (.isub, 1) := by decide +kernel
theorem dX1_place_21 : decode cX1_place 21 = .ok (.iload_n 2, 1) := by decide +kernel
theorem dX1_place_22 : decode cX1_place 22 = .ok (.if_icmp .gt 12, 3) := by decide +kernel
theorem dX1_place_25 : decode cX1_place 25 = .ok (.iload_n 2, 1) := by decide +kernel
theorem dX1_place_26 : decode cX1_place 26 = .ok (.iload_n 1, 1) := by decide +kernel
theorem dX1_place_27 : decode cX1_place 27 = .ok (.isub, 1) := by decide +kernel
theorem dX1_place_28 : decode cX1_place 28 = .ok (.bipush 7, 2) := by decide +kernel
theorem dX1_place_30 : decode cX1_place 30 = .ok (.iadd, 1) := by decide +kernel
theorem dX1_place_31 : decode cX1_place 31 = .ok (.goto 4, 3) := by decide +kernel
theorem dX1_place_34 : decode cX1_place 34 = .ok (.iconst (-1), 1) := by decide +kernel
theorem dX1_place_35 : decode cX1_place 35 = .ok (.ireturn, 1) := by decide +kernel
theorem dX1_letter_0 : decode cX1_letter 0 = .ok (.iload_n 1, 1) := by decide +kernel
theorem dX1_letter_1 : decode cX1_letter 1 = .ok (.iconst 4, 1) := by decide +kernel
theorem dX1_letter_2 : decode cX1_letter 2 = .ok (.if_icmp .ge 5, 3) := by decide +kernel
theorem dX1_letter_5 : decode cX1_letter 5 = .ok (.iload_n 1, 1) := by decide +kernel
theorem dX1_letter_6 : decode cX1_letter 6 = .ok (.ireturn, 1) := by decide +kernel
theorem dX1_letter_7 : decode cX1_letter 7 = .ok (.aload_n 0, 1) := by decide +kernel
theorem dX1_letter_8 : decode cX1_letter 8 = .ok (.iload_n 1, 1) := by decide +kernel
theorem dX1_letter_9 : decode cX1_letter 9 = .ok (.iconst 4, 1) := by decide +kernel
theorem dX1_letter_10 : decode cX1_letter 10 = .ok (.isub, 1) := by decide +kernel
theorem dX1_letter_11 : decode cX1_letter 11 = .ok (.bipush 14, 2) := by decide +kernel
theorem dX1_letter_13 : decode cX1_letter 13 = .ok (.idiv, 1) := by decide +kernel
theorem dX1_letter_14 : decode cX1_letter 14 = .ok (.aload_n 0, 1) := by decide +kernel
theorem dX1_letter_15 : decode cX1_letter 15 = .ok (.getfield 16, 3) := by decide +kernel
theorem dX1_letter_18 : decode cX1_letter 18 = .ok (.iload_n 2, 1) := by decide +kernel
theorem dX1_letter_19 : decode cX1_letter 19 = .ok (.iaload, 1) := by decide +kernel
theorem dX1_letter_20 : decode cX1_letter 20 = .ok (.invokevirtual 39, 3) := by decide +kernel
theorem dX1_letter_23 : decode cX1_letter 23 = .ok (.istore 4, 2) := by decide +kernel
theorem dX1_letter_25 : decode cX1_letter 25 = .ok (.iload 4, 2) := by decide +kernel
theorem dX1_letter_27 : decode cX1_letter 27 = .ok (.iload_n 3, 1) := by decide +kernel
theorem dX1_letter_28 : decode cX1_letter 28 = .ok (.iadd, 1) := by decide +kernel
theorem dX1_letter_29 : decode cX1_letter 29 = .ok (.istore 5, 2) := by decide +kernel
theorem dX1_letter_31 : decode cX1_letter 31 = .ok (.iload 5, 2) := by decide +kernel
theorem dX1_letter_33 : decode cX1_letter 33 = .ok (.ifCond .lt 25, 3) := by decide +kernel
theorem dX1_letter_36 : decode cX1_letter 36 = .ok (.iload 5, 2) := by decide +kernel
theorem dX1_letter_38 : decode cX1_letter 38 = .ok (.bipush 6, 2) := by decide +kernel
theorem dX1_letter_40 : decode cX1_letter 40 = .ok (.if_icmp .ge 18, 3) := by decide +kernel
theorem dX1_letter_43 : decode cX1_letter 43 = .ok (.aload_n 0, 1) := by decide +kernel
theorem dX1_letter_44 : decode cX1_letter 44 = .ok (.getfield 7, 3) := by decide +kernel
theorem dX1_letter_47 : decode cX1_letter 47 = .ok (.iload_n 2, 1) := by decide +kernel
theorem dX1_letter_48 : decode cX1_letter 48 = .ok (.bipush 6, 2) := by decide +kernel
theorem dX1_letter_50 : decode cX1_letter 50 = .ok (.imul, 1) := by decide +kernel
theorem dX1_letter_51 : decode cX1_letter 51 = .ok (.iload 5, 2) := by decide +kernel
theorem dX1_letter_53 : decode cX1_letter 53 = .ok (.iadd, 1) := by decide +kernel
theorem dX1_letter_54 : decode cX1_letter 54 = .ok (.iaload, 1) := by decide +kernel
theorem dX1_letter_55 : decode cX1_letter 55 = .ok (.goto 4, 3) := by decide +kernel
theorem dX1_letter_58 : decode cX1_letter 58 = .ok (.iconst 0, 1) := by decide +kernel
theorem dX1_letter_59 : decode cX1_letter 59 = .ok (.ireturn, 1) := by decide +kernel
theorem dX1_seconds_0 : decode cX1_seconds 0 = .ok (.iconst 0, 1) := by decide +kernel
theorem dX1_seconds_1 : decode cX1_seconds 1 = .ok (.istore 4, 2) := by decide +kernel
theorem dX1_seconds_3 : decode cX1_seconds 3 = .ok (.iconst 0, 1) := by decide +kernel
theorem dX1_seconds_4 : decode cX1_seconds 4 = .ok (.istore 5, 2) := by decide +kernel
theorem dX1_seconds_6 : decode cX1_seconds 6 = .ok (.iload 5, 2) := by decide +kernel
theorem dX1_seconds_8 : decode cX1_seconds 8 = .ok (.sipush 200, 3) := by decide +kernel
theorem dX1_seconds_11 : decode cX1_seconds 11 = .ok (.if_icmp .ge 65, 3) := by decide +kernel
theorem dX1_seconds_14 : decode cX1_seconds 14 = .ok (.aload_n 0, 1) := by decide +kernel
theorem dX1_seconds_15 : decode cX1_seconds 15 = .ok (.iload 5, 2) := by decide +kernel
theorem dX1_seconds_17 : decode cX1_seconds 17 = .ok (.iconst 1, 1) := by decide +kernel
theorem dX1_seconds_18 : decode cX1_seconds 18 = .ok (.iload_n 3, 1) := by decide +kernel
theorem dX1_seconds_19 : decode cX1_seconds 19 = .ok (.invokevirtual 61, 3) := by decide +kernel
theorem dX1_seconds_22 : decode cX1_seconds 22 = .ok (.ifCond .eq 48, 3) := by decide +kernel
theorem dX1_seconds_25 : decode cX1_seconds 25 = .ok (.iload_n 2, 1) := by decide +kernel
theorem dX1_seconds_26 : decode cX1_seconds 26 = .ok (.iconst 3, 1) := by decide +kernel
theorem dX1_seconds_27 : decode cX1_seconds 27 = .ok (.if_icmp .ne 23, 3) := by decide +kernel
theorem dX1_seconds_30 : decode cX1_seconds 30 = .ok (.aload_n 0, 1) := by decide +kernel
theorem dX1_seconds_31 : decode cX1_seconds 31 = .ok (.iload_n 1, 1) := by decide +kernel
theorem dX1_seconds_32 : decode cX1_seconds 32 = .ok (.iload 5, 2) := by decide +kernel
theorem dX1_seconds_34 : decode cX1_seconds 34 = .ok (.iload_n 3, 1) := by decide +kernel
theorem dX1_seconds_35 : decode cX1_seconds 35 = .ok (.invokevirtual 72, 3) := by decide +kernel
theorem dX1_seconds_38 : decode cX1_seconds 38 = .ok (.istore 6, 2) := by decide +kernel
theorem dX1_seconds_40 : decode cX1_seconds 40 = .ok (.iload 4, 2) := by decide +kernel
theorem dX1_seconds_42 : decode cX1_seconds 42 = .ok (.iload 6, 2) := by decide +kernel
theorem dX1_seconds_44 : decode cX1_seconds 44 = .ok (.iadd, 1) := by decide +kernel
theorem dX1_seconds_45 : decode cX1_seconds 45 = .ok (.istore 4, 2) := by decide +kernel
theorem dX1_seconds_47 : decode cX1_seconds 47 = .ok (.goto 23, 3) := by decide +kernel
theorem dX1_seconds_50 : decode cX1_seconds 50 = .ok (.aload_n 0, 1) := by decide +kernel
theorem dX1_seconds_51 : decode cX1_seconds 51 = .ok (.iconst 2, 1) := by decide +kernel
theorem dX1_seconds_52 : decode cX1_seconds 52 = .ok (.iload_n 3, 1) := by decide +kernel
theorem dX1_seconds_53 : decode cX1_seconds 53 = .ok (.invokevirtual 65, 3) := by decide +kernel
theorem dX1_seconds_56 : decode cX1_seconds 56 = .ok (.ifCond .eq 14, 3) := by decide +kernel
theorem dX1_seconds_59 : decode cX1_seconds 59 = .ok (.aload_n 0, 1) := by decide +kernel
theorem dX1_seconds_60 : decode cX1_seconds 60 = .ok (.iload_n 1, 1) := by decide +kernel
theorem dX1_seconds_61 : decode cX1_seconds 61 = .ok (.iload 5, 2) := by decide +kernel
theorem dX1_seconds_63 : decode cX1_seconds 63 = .ok (.iconst (-1), 1) := by decide +kernel
theorem dX1_seconds_64 : decode cX1_seconds 64 = .ok (.invokevirtual 68, 3) := by decide +kernel
theorem dX1_seconds_67 : decode cX1_seconds 67 = .ok (.iinc 4 1, 3) := by decide +kernel
theorem dX1_seconds_70 : decode cX1_seconds 70 = .ok (.iinc 5 1, 3) := by decide +kernel
theorem dX1_seconds_73 : decode cX1_seconds 73 = .ok (.goto (-67), 3) := by decide +kernel
theorem dX1_seconds_76 : decode cX1_seconds 76 = .ok (.iload 4, 2) := by decide +kernel
theorem dX1_seconds_78 : decode cX1_seconds 78 = .ok (.ireturn, 1) := by decide +kernel
theorem dX1_thirds_0 : decode cX1_thirds 0 = .ok (.iconst 0, 1) := by decide +kernel
theorem dX1_thirds_1 : decode cX1_thirds 1 = .ok (.istore 4, 2) := by decide +kernel
theorem dX1_thirds_3 : decode cX1_thirds 3 = .ok (.iconst 0, 1) := by decide +kernel
theorem dX1_thirds_4 : decode cX1_thirds 4 = .ok (.istore 5, 2) := by decide +kernel
theorem dX1_thirds_6 : decode cX1_thirds 6 = .ok (.iload 5, 2) := by decide +kernel
theorem dX1_thirds_8 : decode cX1_thirds 8 = .ok (.sipush 200, 3) := by decide +kernel
theorem dX1_thirds_11 : decode cX1_thirds 11 = .ok (.if_icmp .ge 40, 3) := by decide +kernel
theorem dX1_thirds_14 : decode cX1_thirds 14 = .ok (.aload_n 0, 1) := by decide +kernel
theorem dX1_thirds_15 : decode cX1_thirds 15 = .ok (.iload 5, 2) := by decide +kernel
theorem dX1_thirds_17 : decode cX1_thirds 17 = .ok (.iconst 2, 1) := by decide +kernel
theorem dX1_thirds_18 : decode cX1_thirds 18 = .ok (.iload_n 3, 1) := by decide +kernel
theorem dX1_thirds_19 : decode cX1_thirds 19 = .ok (.invokevirtual 61, 3) := by decide +kernel
theorem dX1_thirds_22 : decode cX1_thirds 22 = .ok (.ifCond .eq 23, 3) := by decide +kernel
theorem dX1_thirds_25 : decode cX1_thirds 25 = .ok (.aload_n 0, 1) := by decide +kernel
theorem dX1_thirds_26 : decode cX1_thirds 26 = .ok (.iconst 3, 1) := by decide +kernel
theorem dX1_thirds_27 : decode cX1_thirds 27 = .ok (.iload_n 3, 1) := by decide +kernel
theorem dX1_thirds_28 : decode cX1_thirds 28 = .ok (.invokevirtual 65, 3) := by decide +kernel
theorem dX1_thirds_31 : decode cX1_thirds 31 = .ok (.ifCond .eq 14, 3) := by decide +kernel
theorem dX1_thirds_34 : decode cX1_thirds 34 = .ok (.aload_n 0, 1) := by decide +kernel
theorem dX1_thirds_35 : decode cX1_thirds 35 = .ok (.iload_n 1, 1) := by decide +kernel
theorem dX1_thirds_36 : decode cX1_thirds 36 = .ok (.iload_n 2, 1) := by decide +kernel
theorem dX1_thirds_37 : decode cX1_thirds 37 = .ok (.iload 5, 2) := by decide +kernel
theorem dX1_thirds_39 : decode cX1_thirds 39 = .ok (.invokevirtual 68, 3) := by decide +kernel
theorem dX1_thirds_42 : decode cX1_thirds 42 = .ok (.iinc 4 1, 3) := by decide +kernel
theorem dX1_thirds_45 : decode cX1_thirds 45 = .ok (.iinc 5 1, 3) := by decide +kernel
theorem dX1_thirds_48 : decode cX1_thirds 48 = .ok (.goto (-42), 3) := by decide +kernel
theorem dX1_thirds_51 : decode cX1_thirds 51 = .ok (.iload 4, 2) := by decide +kernel
theorem dX1_thirds_53 : decode cX1_thirds 53 = .ok (.ireturn, 1) := by decide +kernel
theorem dX1_whole_0 : decode cX1_whole 0 = .ok (.iconst 0, 1) := by decide +kernel
theorem dX1_whole_1 : decode cX1_whole 1 = .ok (.istore_n 3, 1) := by decide +kernel
theorem dX1_whole_2 : decode cX1_whole 2 = .ok (.iload_n 3, 1) := by decide +kernel
theorem dX1_whole_3 : decode cX1_whole 3 = .ok (.iconst 3, 1) := by decide +kernel
theorem dX1_whole_4 : decode cX1_whole 4 = .ok (.if_icmp .ge 39, 3) := by decide +kernel
theorem dX1_whole_7 : decode cX1_whole 7 = .ok (.aload_n 0, 1) := by decide +kernel
theorem dX1_whole_8 : decode cX1_whole 8 = .ok (.iload_n 3, 1) := by decide +kernel
theorem dX1_whole_9 : decode cX1_whole 9 = .ok (.iload_n 2, 1) := by decide +kernel
theorem dX1_whole_10 : decode cX1_whole 10 = .ok (.invokevirtual 50, 3) := by decide +kernel
theorem dX1_whole_13 : decode cX1_whole 13 = .ok (.ifCond .eq 24, 3) := by decide +kernel
theorem dX1_whole_16 : decode cX1_whole 16 = .ok (.aload_n 0, 1) := by decide +kernel
theorem dX1_whole_17 : decode cX1_whole 17 = .ok (.getfield 22, 3) := by decide +kernel
theorem dX1_whole_20 : decode cX1_whole 20 = .ok (.iload_n 1, 1) := by decide +kernel
theorem dX1_whole_21 : decode cX1_whole 21 = .ok (.iconst 3, 1) := by decide +kernel
theorem dX1_whole_22 : decode cX1_whole 22 = .ok (.imul, 1) := by decide +kernel
theorem dX1_whole_23 : decode cX1_whole 23 = .ok (.iload_n 3, 1) := by decide +kernel
theorem dX1_whole_24 : decode cX1_whole 24 = .ok (.iadd, 1) := by decide +kernel
theorem dX1_whole_25 : decode cX1_whole 25 = .ok (.iaload, 1) := by decide +kernel
theorem dX1_whole_26 : decode cX1_whole 26 = .ok (.aload_n 0, 1) := by decide +kernel
theorem dX1_whole_27 : decode cX1_whole 27 = .ok (.getfield 19, 3) := by decide +kernel
theorem dX1_whole_30 : decode cX1_whole 30 = .ok (.iload_n 3, 1) := by decide +kernel
theorem dX1_whole_31 : decode cX1_whole 31 = .ok (.iaload, 1) := by decide +kernel
theorem dX1_whole_32 : decode cX1_whole 32 = .ok (.if_icmp .eq 5, 3) := by decide +kernel
theorem dX1_whole_35 : decode cX1_whole 35 = .ok (.iconst 0, 1) := by decide +kernel
theorem dX1_whole_36 : decode cX1_whole 36 = .ok (.ireturn, 1) := by decide +kernel
theorem dX1_whole_37 : decode cX1_whole 37 = .ok (.iinc 3 1, 3) := by decide +kernel
theorem dX1_whole_40 : decode cX1_whole 40 = .ok (.goto (-38), 3) := by decide +kernel
theorem dX1_whole_43 : decode cX1_whole 43 = .ok (.iconst 1, 1) := by decide +kernel
theorem dX1_whole_44 : decode cX1_whole 44 = .ok (.ireturn, 1) := by decide +kernel
theorem dX1_programs_0 : decode cX1_programs 0 = .ok (.iload_n 1, 1) := by decide +kernel
theorem dX1_programs_1 : decode cX1_programs 1 = .ok (.iconst 1, 1) := by decide +kernel
theorem dX1_programs_2 : decode cX1_programs 2 = .ok (.if_icmp .lt 8, 3) := by decide +kernel
theorem dX1_programs_5 : decode cX1_programs 5 = .ok (.iload_n 1, 1) := by decide +kernel
theorem dX1_programs_6 : decode cX1_programs 6 = .ok (.iconst 3, 1) := by decide +kernel
theorem dX1_programs_7 : decode cX1_programs 7 = .ok (.if_icmp .le 8, 3) := by decide +kernel
theorem dX1_programs_10 : decode cX1_programs 10 = .ok (.bipush (-4), 2) := by decide +kernel
theorem dX1_programs_12 : decode cX1_programs 12 = .ok (.goto 9, 3) := by decide +kernel
theorem dX1_programs_15 : decode cX1_programs 15 = .ok (.aload_n 0, 1) := by decide +kernel
theorem dX1_programs_16 : decode cX1_programs 16 = .ok (.iload_n 1, 1) := by decide +kernel
theorem dX1_programs_17 : decode cX1_programs 17 = .ok (.iconst 0, 1) := by decide +kernel
theorem dX1_programs_18 : decode cX1_programs 18 = .ok (.invokevirtual 81, 3) := by decide +kernel
theorem dX1_programs_21 : decode cX1_programs 21 = .ok (.ireturn, 1) := by decide +kernel
theorem dX1_atom_0 : decode cX1_atom 0 = .ok (.aload_n 0, 1) := by decide +kernel
theorem dX1_atom_1 : decode cX1_atom 1 = .ok (.invokevirtual 85, 3) := by decide +kernel
theorem dX1_atom_4 : decode cX1_atom 4 = .ok (.istore_n 2, 1) := by decide +kernel
theorem dX1_atom_5 : decode cX1_atom 5 = .ok (.iload_n 2, 1) := by decide +kernel
theorem dX1_atom_6 : decode cX1_atom 6 = .ok (.ifCond .lt 12, 3) := by decide +kernel
theorem dX1_atom_9 : decode cX1_atom 9 = .ok (.iload_n 1, 1) := by decide +kernel
theorem dX1_atom_10 : decode cX1_atom 10 = .ok (.ifCond .lt 8, 3) := by decide +kernel
theorem dX1_atom_13 : decode cX1_atom 13 = .ok (.iload_n 1, 1) := by decide +kernel
theorem dX1_atom_14 : decode cX1_atom 14 = .ok (.iload_n 2, 1) := by decide +kernel
theorem dX1_atom_15 : decode cX1_atom 15 = .ok (.if_icmp .lt 8, 3) := by decide +kernel
theorem dX1_atom_18 : decode cX1_atom 18 = .ok (.bipush (-3), 2) := by decide +kernel
theorem dX1_atom_20 : decode cX1_atom 20 = .ok (.goto 9, 3) := by decide +kernel
theorem dX1_atom_23 : decode cX1_atom 23 = .ok (.aload_n 0, 1) := by decide +kernel
theorem dX1_atom_24 : decode cX1_atom 24 = .ok (.getfield 25, 3) := by decide +kernel
theorem dX1_atom_27 : decode cX1_atom 27 = .ok (.iload_n 1, 1) := by decide +kernel
theorem dX1_atom_28 : decode cX1_atom 28 = .ok (.iaload, 1) := by decide +kernel
theorem dX1_atom_29 : decode cX1_atom 29 = .ok (.ireturn, 1) := by decide +kernel
theorem dX1_can_0 : decode cX1_can 0 = .ok (.aload_n 0, 1) := by decide +kernel
theorem dX1_can_1 : decode cX1_can 1 = .ok (.invokevirtual 89, 3) := by decide +kernel
theorem dX1_can_4 : decode cX1_can 4 = .ok (.ifCond .le 7, 3) := by decide +kernel
theorem dX1_can_7 : decode cX1_can 7 = .ok (.iconst 1, 1) := by decide +kernel
theorem dX1_can_8 : decode cX1_can 8 = .ok (.goto 4, 3) := by decide +kernel
end
section
set_option maxRecDepth 100000
theorem dX1_can_11 : decode cX1_can 11 = .ok (.iconst 0, 1) := by decide +kernel
theorem dX1_can_12 : decode cX1_can 12 = .ok (.ireturn, 1) := by decide +kernel
theorem dX1_ways_0 : decode cX1_ways 0 = .ok (.aload_n 0, 1) := by decide +kernel
theorem dX1_ways_1 : decode cX1_ways 1 = .ok (.invokevirtual 85, 3) := by decide +kernel
theorem dX1_ways_4 : decode cX1_ways 4 = .ok (.istore_n 1, 1) := by decide +kernel
theorem dX1_ways_5 : decode cX1_ways 5 = .ok (.iload_n 1, 1) := by decide +kernel
theorem dX1_ways_6 : decode cX1_ways 6 = .ok (.ifCond .ge 7, 3) := by decide +kernel
theorem dX1_ways_9 : decode cX1_ways 9 = .ok (.iconst 0, 1) := by decide +kernel
theorem dX1_ways_10 : decode cX1_ways 10 = .ok (.goto 9, 3) := by decide +kernel
theorem dX1_ways_13 : decode cX1_ways 13 = .ok (.aload_n 0, 1) := by decide +kernel
theorem dX1_ways_14 : decode cX1_ways 14 = .ok (.iload_n 1, 1) := by decide +kernel
theorem dX1_ways_15 : decode cX1_ways 15 = .ok (.iconst 1, 1) := by decide +kernel
theorem dX1_ways_16 : decode cX1_ways 16 = .ok (.invokevirtual 81, 3) := by decide +kernel
theorem dX1_ways_19 : decode cX1_ways 19 = .ok (.ireturn, 1) := by decide +kernel
theorem dX1_resultLength_0 : decode cX1_resultLength 0 = .ok (.aload_n 0, 1) := by decide +kernel
theorem dX1_resultLength_1 : decode cX1_resultLength 1 = .ok (.invokevirtual 92, 3) := by decide +kernel
theorem dX1_resultLength_4 : decode cX1_resultLength 4 = .ok (.ireturn, 1) := by decide +kernel
theorem dX1_make_0 : decode cX1_make 0 = .ok (.aload_n 0, 1) := by decide +kernel
theorem dX1_make_1 : decode cX1_make 1 = .ok (.invokevirtual 85, 3) := by decide +kernel
theorem dX1_make_4 : decode cX1_make 4 = .ok (.istore_n 1, 1) := by decide +kernel
theorem dX1_make_5 : decode cX1_make 5 = .ok (.iload_n 1, 1) := by decide +kernel
theorem dX1_make_6 : decode cX1_make 6 = .ok (.ifCond .ge 6, 3) := by decide +kernel
theorem dX1_make_9 : decode cX1_make 9 = .ok (.bipush (-3), 2) := by decide +kernel
theorem dX1_make_11 : decode cX1_make 11 = .ok (.ireturn, 1) := by decide +kernel
theorem dX1_make_12 : decode cX1_make 12 = .ok (.iconst 0, 1) := by decide +kernel
theorem dX1_make_13 : decode cX1_make 13 = .ok (.istore_n 2, 1) := by decide +kernel
theorem dX1_make_14 : decode cX1_make 14 = .ok (.iconst 0, 1) := by decide +kernel
theorem dX1_make_15 : decode cX1_make 15 = .ok (.istore_n 3, 1) := by decide +kernel
theorem dX1_make_16 : decode cX1_make 16 = .ok (.iload_n 3, 1) := by decide +kernel
theorem dX1_make_17 : decode cX1_make 17 = .ok (.iload_n 1, 1) := by decide +kernel
theorem dX1_make_18 : decode cX1_make 18 = .ok (.if_icmp .ge 74, 3) := by decide +kernel
theorem dX1_make_21 : decode cX1_make 21 = .ok (.aload_n 0, 1) := by decide +kernel
theorem dX1_make_22 : decode cX1_make 22 = .ok (.aload_n 0, 1) := by decide +kernel
theorem dX1_make_23 : decode cX1_make 23 = .ok (.getfield 25, 3) := by decide +kernel
theorem dX1_make_26 : decode cX1_make 26 = .ok (.iload_n 3, 1) := by decide +kernel
theorem dX1_make_27 : decode cX1_make 27 = .ok (.iaload, 1) := by decide +kernel
theorem dX1_make_28 : decode cX1_make 28 = .ok (.iconst 2, 1) := by decide +kernel
theorem dX1_make_29 : decode cX1_make 29 = .ok (.invokevirtual 43, 3) := by decide +kernel
theorem dX1_make_32 : decode cX1_make 32 = .ok (.istore 4, 2) := by decide +kernel
theorem dX1_make_34 : decode cX1_make 34 = .ok (.iload 4, 2) := by decide +kernel
theorem dX1_make_36 : decode cX1_make 36 = .ok (.ifCond .ne 6, 3) := by decide +kernel
theorem dX1_make_39 : decode cX1_make 39 = .ok (.bipush (-3), 2) := by decide +kernel
theorem dX1_make_41 : decode cX1_make 41 = .ok (.ireturn, 1) := by decide +kernel
theorem dX1_make_42 : decode cX1_make 42 = .ok (.iconst 0, 1) := by decide +kernel
theorem dX1_make_43 : decode cX1_make 43 = .ok (.istore 5, 2) := by decide +kernel
theorem dX1_make_45 : decode cX1_make 45 = .ok (.iload 5, 2) := by decide +kernel
theorem dX1_make_47 : decode cX1_make 47 = .ok (.iload 4, 2) := by decide +kernel
theorem dX1_make_49 : decode cX1_make 49 = .ok (.if_icmp .ge 37, 3) := by decide +kernel
theorem dX1_make_52 : decode cX1_make 52 = .ok (.iload_n 2, 1) := by decide +kernel
theorem dX1_make_53 : decode cX1_make 53 = .ok (.bipush 18, 2) := by decide +kernel
theorem dX1_make_55 : decode cX1_make 55 = .ok (.if_icmp .ge 25, 3) := by decide +kernel
theorem dX1_make_58 : decode cX1_make 58 = .ok (.aload_n 0, 1) := by decide +kernel
theorem dX1_make_59 : decode cX1_make 59 = .ok (.getfield 28, 3) := by decide +kernel
theorem dX1_make_62 : decode cX1_make 62 = .ok (.iload_n 2, 1) := by decide +kernel
theorem dX1_make_63 : decode cX1_make 63 = .ok (.aload_n 0, 1) := by decide +kernel
theorem dX1_make_64 : decode cX1_make 64 = .ok (.aload_n 0, 1) := by decide +kernel
theorem dX1_make_65 : decode cX1_make 65 = .ok (.getfield 25, 3) := by decide +kernel
theorem dX1_make_68 : decode cX1_make 68 = .ok (.iload_n 3, 1) := by decide +kernel
theorem dX1_make_69 : decode cX1_make 69 = .ok (.iaload, 1) := by decide +kernel
theorem dX1_make_70 : decode cX1_make 70 = .ok (.iconst 2, 1) := by decide +kernel
theorem dX1_make_71 : decode cX1_make 71 = .ok (.iload 5, 2) := by decide +kernel
theorem dX1_make_73 : decode cX1_make 73 = .ok (.invokevirtual 46, 3) := by decide +kernel
theorem dX1_make_76 : decode cX1_make 76 = .ok (.iastore, 1) := by decide +kernel
theorem dX1_make_77 : decode cX1_make 77 = .ok (.iinc 2 1, 3) := by decide +kernel
theorem dX1_make_80 : decode cX1_make 80 = .ok (.iinc 5 1, 3) := by decide +kernel
theorem dX1_make_83 : decode cX1_make 83 = .ok (.goto (-38), 3) := by decide +kernel
theorem dX1_make_86 : decode cX1_make 86 = .ok (.iinc 3 1, 3) := by decide +kernel
theorem dX1_make_89 : decode cX1_make 89 = .ok (.goto (-73), 3) := by decide +kernel
theorem dX1_make_92 : decode cX1_make 92 = .ok (.iload_n 2, 1) := by decide +kernel
theorem dX1_make_93 : decode cX1_make 93 = .ok (.ireturn, 1) := by decide +kernel
theorem dX1_result_0 : decode cX1_result 0 = .ok (.aload_n 0, 1) := by decide +kernel
theorem dX1_result_1 : decode cX1_result 1 = .ok (.invokevirtual 92, 3) := by decide +kernel
theorem dX1_result_4 : decode cX1_result 4 = .ok (.istore_n 2, 1) := by decide +kernel
theorem dX1_result_5 : decode cX1_result 5 = .ok (.iload_n 1, 1) := by decide +kernel
theorem dX1_result_6 : decode cX1_result 6 = .ok (.ifCond .lt 14, 3) := by decide +kernel
theorem dX1_result_9 : decode cX1_result 9 = .ok (.iload_n 1, 1) := by decide +kernel
theorem dX1_result_10 : decode cX1_result 10 = .ok (.iload_n 2, 1) := by decide +kernel
theorem dX1_result_11 : decode cX1_result 11 = .ok (.if_icmp .ge 9, 3) := by decide +kernel
theorem dX1_result_14 : decode cX1_result 14 = .ok (.iload_n 1, 1) := by decide +kernel
theorem dX1_result_15 : decode cX1_result 15 = .ok (.bipush 17, 2) := by decide +kernel
theorem dX1_result_17 : decode cX1_result 17 = .ok (.if_icmp .le 8, 3) := by decide +kernel
theorem dX1_result_20 : decode cX1_result 20 = .ok (.bipush (-3), 2) := by decide +kernel
theorem dX1_result_22 : decode cX1_result 22 = .ok (.goto 9, 3) := by decide +kernel
theorem dX1_result_25 : decode cX1_result 25 = .ok (.aload_n 0, 1) := by decide +kernel
theorem dX1_result_26 : decode cX1_result 26 = .ok (.getfield 28, 3) := by decide +kernel
theorem dX1_result_29 : decode cX1_result 29 = .ok (.iload_n 1, 1) := by decide +kernel
theorem dX1_result_30 : decode cX1_result 30 = .ok (.iaload, 1) := by decide +kernel
theorem dX1_result_31 : decode cX1_result 31 = .ok (.ireturn, 1) := by decide +kernel
theorem dX1_right_0 : decode cX1_right 0 = .ok (.iload_n 1, 1) := by decide +kernel
theorem dX1_right_1 : decode cX1_right 1 = .ok (.ifCond .lt 10, 3) := by decide +kernel
theorem dX1_right_4 : decode cX1_right 4 = .ok (.iload_n 1, 1) := by decide +kernel
theorem dX1_right_5 : decode cX1_right 5 = .ok (.sipush 199, 3) := by decide +kernel
theorem dX1_right_8 : decode cX1_right 8 = .ok (.if_icmp .le 5, 3) := by decide +kernel
theorem dX1_right_11 : decode cX1_right 11 = .ok (.iconst 0, 1) := by decide +kernel
theorem dX1_right_12 : decode cX1_right 12 = .ok (.ireturn, 1) := by decide +kernel
theorem dX1_right_13 : decode cX1_right 13 = .ok (.iconst 0, 1) := by decide +kernel
theorem dX1_right_14 : decode cX1_right 14 = .ok (.istore_n 2, 1) := by decide +kernel
theorem dX1_right_15 : decode cX1_right 15 = .ok (.iload_n 2, 1) := by decide +kernel
theorem dX1_right_16 : decode cX1_right 16 = .ok (.aload_n 0, 1) := by decide +kernel
theorem dX1_right_17 : decode cX1_right 17 = .ok (.getfield 35, 3) := by decide +kernel
theorem dX1_right_20 : decode cX1_right 20 = .ok (.if_icmp .ge 27, 3) := by decide +kernel
theorem dX1_right_23 : decode cX1_right 23 = .ok (.aload_n 0, 1) := by decide +kernel
theorem dX1_right_24 : decode cX1_right 24 = .ok (.iload_n 1, 1) := by decide +kernel
theorem dX1_right_25 : decode cX1_right 25 = .ok (.iload_n 2, 1) := by decide +kernel
theorem dX1_right_26 : decode cX1_right 26 = .ok (.iconst 0, 1) := by decide +kernel
theorem dX1_right_27 : decode cX1_right 27 = .ok (.invokevirtual 54, 3) := by decide +kernel
theorem dX1_right_30 : decode cX1_right 30 = .ok (.aload_n 0, 1) := by decide +kernel
theorem dX1_right_31 : decode cX1_right 31 = .ok (.getfield 19, 3) := by decide +kernel
theorem dX1_right_34 : decode cX1_right 34 = .ok (.iload_n 2, 1) := by decide +kernel
theorem dX1_right_35 : decode cX1_right 35 = .ok (.iaload, 1) := by decide +kernel
theorem dX1_right_36 : decode cX1_right 36 = .ok (.if_icmp .eq 5, 3) := by decide +kernel
theorem dX1_right_39 : decode cX1_right 39 = .ok (.iconst 0, 1) := by decide +kernel
theorem dX1_right_40 : decode cX1_right 40 = .ok (.ireturn, 1) := by decide +kernel
theorem dX1_right_41 : decode cX1_right 41 = .ok (.iinc 2 1, 3) := by decide +kernel
theorem dX1_right_44 : decode cX1_right 44 = .ok (.goto (-29), 3) := by decide +kernel
theorem dX1_right_47 : decode cX1_right 47 = .ok (.iconst 1, 1) := by decide +kernel
theorem dX1_right_48 : decode cX1_right 48 = .ok (.ireturn, 1) := by decide +kernel
theorem dJ0_init_0 : decode cJ0_init 0 = .ok (.return_, 1) := by decide +kernel
theorem dL_law_0 : decode cL_law 0 = .ok (.new 7, 3) := by decide +kernel
theorem dL_law_3 : decode cL_law 3 = .ok (.dup, 1) := by decide +kernel
theorem dL_law_4 : decode cL_law 4 = .ok (.invokespecial 9, 3) := by decide +kernel
theorem dL_law_7 : decode cL_law 7 = .ok (.astore_n 1, 1) := by decide +kernel
theorem dL_law_8 : decode cL_law 8 = .ok (.new 10, 3) := by decide +kernel
theorem dL_law_11 : decode cL_law 11 = .ok (.dup, 1) := by decide +kernel
theorem dL_law_12 : decode cL_law 12 = .ok (.invokespecial 12, 3) := by decide +kernel
theorem dL_law_15 : decode cL_law 15 = .ok (.astore_n 2, 1) := by decide +kernel
theorem dL_law_16 : decode cL_law 16 = .ok (.iconst 0, 1) := by decide +kernel
theorem dL_law_17 : decode cL_law 17 = .ok (.istore_n 3, 1) := by decide +kernel
theorem dL_law_18 : decode cL_law 18 = .ok (.iload_n 3, 1) := by decide +kernel
theorem dL_law_19 : decode cL_law 19 = .ok (.aload_n 0, 1) := by decide +kernel
theorem dL_law_20 : decode cL_law 20 = .ok (.arraylength, 1) := by decide +kernel
theorem dL_law_21 : decode cL_law 21 = .ok (.iconst 2, 1) := by decide +kernel
theorem dL_law_22 : decode cL_law 22 = .ok (.isub, 1) := by decide +kernel
theorem dL_law_23 : decode cL_law 23 = .ok (.if_icmp .gt 310, 3) := by decide +kernel
theorem dL_law_26 : decode cL_law 26 = .ok (.aload_n 0, 1) := by decide +kernel
theorem dL_law_27 : decode cL_law 27 = .ok (.iload_n 3, 1) := by decide +kernel
theorem dL_law_28 : decode cL_law 28 = .ok (.iaload, 1) := by decide +kernel
theorem dL_law_29 : decode cL_law 29 = .ok (.bipush 15, 2) := by decide +kernel
theorem dL_law_31 : decode cL_law 31 = .ok (.iand, 1) := by decide +kernel
theorem dL_law_32 : decode cL_law 32 = .ok (.tableswitch 295 0 12 #[68, 91, 114, 125, 138, 151, 164, 187, 210, 223, 236, 249, 272], 68) := by decide +kernel
theorem dL_law_100 : decode cL_law 100 = .ok (.aload_n 1, 1) := by decide +kernel
theorem dL_law_101 : decode cL_law 101 = .ok (.aload_n 0, 1) := by decide +kernel
theorem dL_law_102 : decode cL_law 102 = .ok (.iload_n 3, 1) := by decide +kernel
theorem dL_law_103 : decode cL_law 103 = .ok (.iconst 1, 1) := by decide +kernel
theorem dL_law_104 : decode cL_law 104 = .ok (.iadd, 1) := by decide +kernel
theorem dL_law_105 : decode cL_law 105 = .ok (.iaload, 1) := by decide +kernel
theorem dL_law_106 : decode cL_law 106 = .ok (.invokevirtual 13, 3) := by decide +kernel
theorem dL_law_109 : decode cL_law 109 = .ok (.aload_n 2, 1) := by decide +kernel
theorem dL_law_110 : decode cL_law 110 = .ok (.aload_n 0, 1) := by decide +kernel
theorem dL_law_111 : decode cL_law 111 = .ok (.iload_n 3, 1) := by decide +kernel
theorem dL_law_112 : decode cL_law 112 = .ok (.iconst 1, 1) := by decide +kernel
theorem dL_law_113 : decode cL_law 113 = .ok (.iadd, 1) := by decide +kernel
theorem dL_law_114 : decode cL_law 114 = .ok (.iaload, 1) := by decide +kernel
theorem dL_law_115 : decode cL_law 115 = .ok (.invokevirtual 17, 3) := by decide +kernel
theorem dL_law_118 : decode cL_law 118 = .ok (.if_icmp .eq 209, 3) := by decide +kernel
theorem dL_law_121 : decode cL_law 121 = .ok (.iconst 0, 1) := by decide +kernel
theorem dL_law_122 : decode cL_law 122 = .ok (.ireturn, 1) := by decide +kernel
theorem dL_law_123 : decode cL_law 123 = .ok (.aload_n 1, 1) := by decide +kernel
theorem dL_law_124 : decode cL_law 124 = .ok (.aload_n 0, 1) := by decide +kernel
theorem dL_law_125 : decode cL_law 125 = .ok (.iload_n 3, 1) := by decide +kernel
theorem dL_law_126 : decode cL_law 126 = .ok (.iconst 1, 1) := by decide +kernel
theorem dL_law_127 : decode cL_law 127 = .ok (.iadd, 1) := by decide +kernel
theorem dL_law_128 : decode cL_law 128 = .ok (.iaload, 1) := by decide +kernel
theorem dL_law_129 : decode cL_law 129 = .ok (.invokevirtual 18, 3) := by decide +kernel
theorem dL_law_132 : decode cL_law 132 = .ok (.aload_n 2, 1) := by decide +kernel
theorem dL_law_133 : decode cL_law 133 = .ok (.aload_n 0, 1) := by decide +kernel
theorem dL_law_134 : decode cL_law 134 = .ok (.iload_n 3, 1) := by decide +kernel
theorem dL_law_135 : decode cL_law 135 = .ok (.iconst 1, 1) := by decide +kernel
theorem dL_law_136 : decode cL_law 136 = .ok (.iadd, 1) := by decide +kernel
theorem dL_law_137 : decode cL_law 137 = .ok (.iaload, 1) := by decide +kernel
theorem dL_law_138 : decode cL_law 138 = .ok (.invokevirtual 21, 3) := by decide +kernel
theorem dL_law_141 : decode cL_law 141 = .ok (.if_icmp .eq 186, 3) := by decide +kernel
theorem dL_law_144 : decode cL_law 144 = .ok (.iconst 0, 1) := by decide +kernel
theorem dL_law_145 : decode cL_law 145 = .ok (.ireturn, 1) := by decide +kernel
theorem dL_law_146 : decode cL_law 146 = .ok (.aload_n 1, 1) := by decide +kernel
theorem dL_law_147 : decode cL_law 147 = .ok (.invokevirtual 22, 3) := by decide +kernel
theorem dL_law_150 : decode cL_law 150 = .ok (.aload_n 2, 1) := by decide +kernel
theorem dL_law_151 : decode cL_law 151 = .ok (.invokevirtual 25, 3) := by decide +kernel
theorem dL_law_154 : decode cL_law 154 = .ok (.goto 173, 3) := by decide +kernel
theorem dL_law_157 : decode cL_law 157 = .ok (.aload_n 1, 1) := by decide +kernel
theorem dL_law_158 : decode cL_law 158 = .ok (.invokevirtual 26, 3) := by decide +kernel
theorem dL_law_161 : decode cL_law 161 = .ok (.aload_n 2, 1) := by decide +kernel
theorem dL_law_162 : decode cL_law 162 = .ok (.invokevirtual 30, 3) := by decide +kernel
theorem dL_law_165 : decode cL_law 165 = .ok (.if_icmp .eq 162, 3) := by decide +kernel
theorem dL_law_168 : decode cL_law 168 = .ok (.iconst 0, 1) := by decide +kernel
theorem dL_law_169 : decode cL_law 169 = .ok (.ireturn, 1) := by decide +kernel
theorem dL_law_170 : decode cL_law 170 = .ok (.aload_n 1, 1) := by decide +kernel
theorem dL_law_171 : decode cL_law 171 = .ok (.invokevirtual 31, 3) := by decide +kernel
theorem dL_law_174 : decode cL_law 174 = .ok (.aload_n 2, 1) := by decide +kernel
theorem dL_law_175 : decode cL_law 175 = .ok (.invokevirtual 34, 3) := by decide +kernel
theorem dL_law_178 : decode cL_law 178 = .ok (.if_icmp .eq 149, 3) := by decide +kernel
theorem dL_law_181 : decode cL_law 181 = .ok (.iconst 0, 1) := by decide +kernel
theorem dL_law_182 : decode cL_law 182 = .ok (.ireturn, 1) := by decide +kernel
theorem dL_law_183 : decode cL_law 183 = .ok (.aload_n 1, 1) := by decide +kernel
theorem dL_law_184 : decode cL_law 184 = .ok (.invokevirtual 35, 3) := by decide +kernel
theorem dL_law_187 : decode cL_law 187 = .ok (.aload_n 2, 1) := by decide +kernel
theorem dL_law_188 : decode cL_law 188 = .ok (.invokevirtual 38, 3) := by decide +kernel
theorem dL_law_191 : decode cL_law 191 = .ok (.if_icmp .eq 136, 3) := by decide +kernel
theorem dL_law_194 : decode cL_law 194 = .ok (.iconst 0, 1) := by decide +kernel
theorem dL_law_195 : decode cL_law 195 = .ok (.ireturn, 1) := by decide +kernel
theorem dL_law_196 : decode cL_law 196 = .ok (.aload_n 1, 1) := by decide +kernel
theorem dL_law_197 : decode cL_law 197 = .ok (.aload_n 0, 1) := by decide +kernel
theorem dL_law_198 : decode cL_law 198 = .ok (.iload_n 3, 1) := by decide +kernel
theorem dL_law_199 : decode cL_law 199 = .ok (.iconst 1, 1) := by decide +kernel
theorem dL_law_200 : decode cL_law 200 = .ok (.iadd, 1) := by decide +kernel
theorem dL_law_201 : decode cL_law 201 = .ok (.iaload, 1) := by decide +kernel
theorem dL_law_202 : decode cL_law 202 = .ok (.invokevirtual 39, 3) := by decide +kernel
theorem dL_law_205 : decode cL_law 205 = .ok (.aload_n 2, 1) := by decide +kernel
theorem dL_law_206 : decode cL_law 206 = .ok (.aload_n 0, 1) := by decide +kernel
theorem dL_law_207 : decode cL_law 207 = .ok (.iload_n 3, 1) := by decide +kernel
theorem dL_law_208 : decode cL_law 208 = .ok (.iconst 1, 1) := by decide +kernel
theorem dL_law_209 : decode cL_law 209 = .ok (.iadd, 1) := by decide +kernel
theorem dL_law_210 : decode cL_law 210 = .ok (.iaload, 1) := by decide +kernel
theorem dL_law_211 : decode cL_law 211 = .ok (.invokevirtual 42, 3) := by decide +kernel
theorem dL_law_214 : decode cL_law 214 = .ok (.if_icmp .eq 113, 3) := by decide +kernel
theorem dL_law_217 : decode cL_law 217 = .ok (.iconst 0, 1) := by decide +kernel
theorem dL_law_218 : decode cL_law 218 = .ok (.ireturn, 1) := by decide +kernel
theorem dL_law_219 : decode cL_law 219 = .ok (.aload_n 1, 1) := by decide +kernel
theorem dL_law_220 : decode cL_law 220 = .ok (.aload_n 0, 1) := by decide +kernel
theorem dL_law_221 : decode cL_law 221 = .ok (.iload_n 3, 1) := by decide +kernel
theorem dL_law_222 : decode cL_law 222 = .ok (.iconst 1, 1) := by decide +kernel
theorem dL_law_223 : decode cL_law 223 = .ok (.iadd, 1) := by decide +kernel
theorem dL_law_224 : decode cL_law 224 = .ok (.iaload, 1) := by decide +kernel
theorem dL_law_225 : decode cL_law 225 = .ok (.invokevirtual 43, 3) := by decide +kernel
theorem dL_law_228 : decode cL_law 228 = .ok (.aload_n 2, 1) := by decide +kernel
theorem dL_law_229 : decode cL_law 229 = .ok (.aload_n 0, 1) := by decide +kernel
theorem dL_law_230 : decode cL_law 230 = .ok (.iload_n 3, 1) := by decide +kernel
theorem dL_law_231 : decode cL_law 231 = .ok (.iconst 1, 1) := by decide +kernel
theorem dL_law_232 : decode cL_law 232 = .ok (.iadd, 1) := by decide +kernel
theorem dL_law_233 : decode cL_law 233 = .ok (.iaload, 1) := by decide +kernel
theorem dL_law_234 : decode cL_law 234 = .ok (.invokevirtual 46, 3) := by decide +kernel
theorem dL_law_237 : decode cL_law 237 = .ok (.if_icmp .eq 90, 3) := by decide +kernel
theorem dL_law_240 : decode cL_law 240 = .ok (.iconst 0, 1) := by decide +kernel
theorem dL_law_241 : decode cL_law 241 = .ok (.ireturn, 1) := by decide +kernel
theorem dL_law_242 : decode cL_law 242 = .ok (.aload_n 1, 1) := by decide +kernel
theorem dL_law_243 : decode cL_law 243 = .ok (.invokevirtual 47, 3) := by decide +kernel
theorem dL_law_246 : decode cL_law 246 = .ok (.aload_n 2, 1) := by decide +kernel
theorem dL_law_247 : decode cL_law 247 = .ok (.invokevirtual 51, 3) := by decide +kernel
theorem dL_law_250 : decode cL_law 250 = .ok (.if_icmp .eq 77, 3) := by decide +kernel
theorem dL_law_253 : decode cL_law 253 = .ok (.iconst 0, 1) := by decide +kernel
theorem dL_law_254 : decode cL_law 254 = .ok (.ireturn, 1) := by decide +kernel
theorem dL_law_255 : decode cL_law 255 = .ok (.aload_n 1, 1) := by decide +kernel
theorem dL_law_256 : decode cL_law 256 = .ok (.invokevirtual 52, 3) := by decide +kernel
theorem dL_law_259 : decode cL_law 259 = .ok (.aload_n 2, 1) := by decide +kernel
theorem dL_law_260 : decode cL_law 260 = .ok (.invokevirtual 55, 3) := by decide +kernel
theorem dL_law_263 : decode cL_law 263 = .ok (.if_icmp .eq 64, 3) := by decide +kernel
theorem dL_law_266 : decode cL_law 266 = .ok (.iconst 0, 1) := by decide +kernel
theorem dL_law_267 : decode cL_law 267 = .ok (.ireturn, 1) := by decide +kernel
theorem dL_law_268 : decode cL_law 268 = .ok (.aload_n 1, 1) := by decide +kernel
theorem dL_law_269 : decode cL_law 269 = .ok (.invokevirtual 56, 3) := by decide +kernel
theorem dL_law_272 : decode cL_law 272 = .ok (.aload_n 2, 1) := by decide +kernel
theorem dL_law_273 : decode cL_law 273 = .ok (.invokevirtual 59, 3) := by decide +kernel
theorem dL_law_276 : decode cL_law 276 = .ok (.if_icmp .eq 51, 3) := by decide +kernel
theorem dL_law_279 : decode cL_law 279 = .ok (.iconst 0, 1) := by decide +kernel
theorem dL_law_280 : decode cL_law 280 = .ok (.ireturn, 1) := by decide +kernel
theorem dL_law_281 : decode cL_law 281 = .ok (.aload_n 1, 1) := by decide +kernel
theorem dL_law_282 : decode cL_law 282 = .ok (.aload_n 0, 1) := by decide +kernel
theorem dL_law_283 : decode cL_law 283 = .ok (.iload_n 3, 1) := by decide +kernel
theorem dL_law_284 : decode cL_law 284 = .ok (.iconst 1, 1) := by decide +kernel
theorem dL_law_285 : decode cL_law 285 = .ok (.iadd, 1) := by decide +kernel
theorem dL_law_286 : decode cL_law 286 = .ok (.iaload, 1) := by decide +kernel
theorem dL_law_287 : decode cL_law 287 = .ok (.invokevirtual 60, 3) := by decide +kernel
theorem dL_law_290 : decode cL_law 290 = .ok (.aload_n 2, 1) := by decide +kernel
theorem dL_law_291 : decode cL_law 291 = .ok (.aload_n 0, 1) := by decide +kernel
theorem dL_law_292 : decode cL_law 292 = .ok (.iload_n 3, 1) := by decide +kernel
theorem dL_law_293 : decode cL_law 293 = .ok (.iconst 1, 1) := by decide +kernel
theorem dL_law_294 : decode cL_law 294 = .ok (.iadd, 1) := by decide +kernel
theorem dL_law_295 : decode cL_law 295 = .ok (.iaload, 1) := by decide +kernel
theorem dL_law_296 : decode cL_law 296 = .ok (.invokevirtual 63, 3) := by decide +kernel
theorem dL_law_299 : decode cL_law 299 = .ok (.if_icmp .eq 28, 3) := by decide +kernel
theorem dL_law_302 : decode cL_law 302 = .ok (.iconst 0, 1) := by decide +kernel
theorem dL_law_303 : decode cL_law 303 = .ok (.ireturn, 1) := by decide +kernel
theorem dL_law_304 : decode cL_law 304 = .ok (.aload_n 1, 1) := by decide +kernel
theorem dL_law_305 : decode cL_law 305 = .ok (.aload_n 0, 1) := by decide +kernel
theorem dL_law_306 : decode cL_law 306 = .ok (.iload_n 3, 1) := by decide +kernel
theorem dL_law_307 : decode cL_law 307 = .ok (.iconst 1, 1) := by decide +kernel
theorem dL_law_308 : decode cL_law 308 = .ok (.iadd, 1) := by decide +kernel
theorem dL_law_309 : decode cL_law 309 = .ok (.iaload, 1) := by decide +kernel
theorem dL_law_310 : decode cL_law 310 = .ok (.invokevirtual 64, 3) := by decide +kernel
theorem dL_law_313 : decode cL_law 313 = .ok (.aload_n 2, 1) := by decide +kernel
theorem dL_law_314 : decode cL_law 314 = .ok (.aload_n 0, 1) := by decide +kernel
theorem dL_law_315 : decode cL_law 315 = .ok (.iload_n 3, 1) := by decide +kernel
theorem dL_law_316 : decode cL_law 316 = .ok (.iconst 1, 1) := by decide +kernel
theorem dL_law_317 : decode cL_law 317 = .ok (.iadd, 1) := by decide +kernel
theorem dL_law_318 : decode cL_law 318 = .ok (.iaload, 1) := by decide +kernel
theorem dL_law_319 : decode cL_law 319 = .ok (.invokevirtual 68, 3) := by decide +kernel
theorem dL_law_322 : decode cL_law 322 = .ok (.if_icmp .eq 5, 3) := by decide +kernel
theorem dL_law_325 : decode cL_law 325 = .ok (.iconst 0, 1) := by decide +kernel
theorem dL_law_326 : decode cL_law 326 = .ok (.ireturn, 1) := by decide +kernel
theorem dL_law_327 : decode cL_law 327 = .ok (.iinc 3 2, 3) := by decide +kernel
theorem dL_law_330 : decode cL_law 330 = .ok (.goto (-312), 3) := by decide +kernel
theorem dL_law_333 : decode cL_law 333 = .ok (.iconst 1, 1) := by decide +kernel
theorem dL_law_334 : decode cL_law 334 = .ok (.ireturn, 1) := by decide +kernel
end
section
def zI (z : Int) : Int32 := Int32.ofInt z
theorem zI_add (a b : Int) : zI a + zI b = zI (a + b) := (Int32.ofInt_add a b).symm
theorem zI_sub (a b : Int) : zI a - zI b = zI (a - b) := (Int32.ofInt_sub a b).symm
theorem zI_mul (a b : Int) : zI a * zI b = zI (a * b) := (Int32.ofInt_mul a b).symm
theorem zI_toInt {a : Int} (h : -2147483648 ≤ a ∧ a ≤ 2147483647) : (zI a).toInt = a := Int32.toInt_ofInt_of_le (by omega) (by omega)
theorem zI_lt {a b : Int} (h : (-2147483648 ≤ a ∧ a ≤ 2147483647) ∧ (-2147483648 ≤ b ∧ b ≤ 2147483647)) : zI a < zI b ↔ a < b := by
  rw [Int32.lt_iff_toInt_lt, zI_toInt h.1, zI_toInt h.2]
theorem zI_le {a b : Int} (h : (-2147483648 ≤ a ∧ a ≤ 2147483647) ∧ (-2147483648 ≤ b ∧ b ≤ 2147483647)) : zI a ≤ zI b ↔ a ≤ b := by
  rw [Int32.le_iff_toInt_le, zI_toInt h.1, zI_toInt h.2]
theorem zI_eq {a b : Int} (h : (-2147483648 ≤ a ∧ a ≤ 2147483647) ∧ (-2147483648 ≤ b ∧ b ≤ 2147483647)) : zI a = zI b ↔ a = b := by
  rw [← Int32.toInt_inj, zI_toInt h.1, zI_toInt h.2]
theorem zI_0 : (0 : Int32) = zI 0 := by decide +kernel
theorem zI_of (x : Int32) : x = zI x.toInt := (Int32.ofInt_toInt x).symm
theorem zI_rg (x : Int32) : -2147483648 ≤ x.toInt ∧ x.toInt ≤ 2147483647 := by
  have h1 := Int32.le_toInt x
  have h2 := Int32.toInt_lt x
  omega
theorem zI_clamp {i : Int} (h : 0 ≤ i ∧ i ≤ 2147483647) : (zI i).toNatClampNeg = i.toNat := Int32.toNatClampNeg_ofInt_of_le (by omega) (by omega)
theorem zI_in {i : Int} {n : Nat} (h : 0 ≤ i ∧ i < (n : Int)) (hn : n ≤ 2147483647) : vp_in (zI i) n := by
  rw [vp_in_iff, zI_toInt (by omega)]
  exact h
theorem zI_div {a d : Int} (ha : 0 ≤ a ∧ a ≤ 2147483647) (hd : 0 < d ∧ d ≤ 2147483647) : zI a / zI d = zI (a / d) := by
  have h1 : 0 ≤ a / d := Int.ediv_nonneg ha.1 (by omega)
  have h2 : a / d ≤ a := Int.ediv_le_self _ ha.1
  apply Int32.toInt_inj.mp
  rw [Int32.toInt_div_of_ne_right, zI_toInt (by omega), zI_toInt (by omega), zI_toInt (by omega), Int.tdiv_eq_ediv_of_nonneg ha.1]
  intro q
  have q2 := congrArg Int32.toInt q
  rw [zI_toInt (by omega)] at q2
  have q3 : (-1 : Int32).toInt = -1 := by decide +kernel
  omega
theorem zI_rem {a d : Int} (ha : 0 ≤ a ∧ a ≤ 2147483647) (hd : 0 < d ∧ d ≤ 2147483647) : zI a - zI a / zI d * zI d = zI (a % d) := by
  rw [zI_div ha hd, zI_mul, zI_sub, Int.emod_def, Int.mul_comm]
theorem zI_byte {a : Int} (h : -128 ≤ a ∧ a ≤ 127) : (zI a).toInt8.toInt32 = zI a := by
  have h1 : Int8.minValue.toInt = -128 := by decide +kernel
  have h2 : Int8.maxValue.toInt = 127 := by decide +kernel
  unfold zI
  rw [Int32.toInt8_ofInt, Int8.toInt32_ofInt (by omega) (by omega)]
theorem zI_n0 {d : Int} (hd : 0 < d ∧ d ≤ 2147483647) : ¬ zI d = 0 := by
  rw [zI_0, zI_eq (by omega)]
  omega
theorem zI_bool {x : Int} (hv : x = 0 ∨ x = 1) : narrow .boolean (.int (zI x)) = .int (zI x) ∧ fits .boolean (.int (zI x)) = true := by
  rcases hv with rfl | rfl
  · exact ⟨by decide +kernel, by decide +kernel⟩
  · exact ⟨by decide +kernel, by decide +kernel⟩
theorem zI_eq0 {x : Int} (h : -2147483648 ≤ x ∧ x ≤ 2147483647) : zI x = 0 ↔ x = 0 := by
  rw [zI_0]; exact zI_eq ⟨h, by omega⟩
theorem zI_lt0 {x : Int} (h : -2147483648 ≤ x ∧ x ≤ 2147483647) : zI x < 0 ↔ x < 0 := by
  rw [zI_0]; exact zI_lt ⟨h, by omega⟩
theorem zI_gt0 {x : Int} (h : -2147483648 ≤ x ∧ x ≤ 2147483647) : 0 < zI x ↔ 0 < x := by
  rw [zI_0]; exact zI_lt ⟨by omega, h⟩
theorem zI_le0 {x : Int} (h : -2147483648 ≤ x ∧ x ≤ 2147483647) : zI x ≤ 0 ↔ x ≤ 0 := by
  rw [zI_0]; exact zI_le ⟨h, by omega⟩
theorem zI_ge0 {x : Int} (h : -2147483648 ≤ x ∧ x ≤ 2147483647) : 0 ≤ zI x ↔ 0 ≤ x := by
  rw [zI_0]; exact zI_le ⟨by omega, h⟩
abbrev FF : Type := Int → Int
def ar (f : FF) : Nat → Int32 := fun j => zI (f (j : Int))
def up (f : FF) (i v : Int) : FF := fun j => if j = i then v else f j
theorem up_s (f : FF) (i v : Int) : up f i v i = v := by simp [up]
theorem up_n {f : FF} {i v j : Int} (h : j ≠ i) : up f i v j = f j := by simp [up, h]
theorem ar_at {f : FF} {i : Int} (h : 0 ≤ i ∧ i ≤ 2147483647) : ar f (zI i).toNatClampNeg = zI (f i) := by
  rw [zI_clamp h, ar, Int.toNat_of_nonneg h.1]
theorem ar_up {f : FF} {i v : Int} (h : 0 ≤ i ∧ i ≤ 2147483647) : upd (ar f) (zI i).toNatClampNeg (zI v) = ar (up f i v) := by
  funext j
  rw [zI_clamp h]
  unfold upd ar up
  by_cases e : j = i.toNat
  · rw [if_pos e, if_pos (by omega)]
  · rw [if_neg e, if_neg (by omega)]
theorem ar_0 : ar (fun _ => 0) = fun _ => 0 := by
  funext j
  exact zI_0.symm
abbrev TT : Type := Int × FF × FF × FF × FF
abbrev CC : Type := FF × Int × Int × FF × Int
abbrev OO : Type := Int × FF × Int × FF
abbrev NN : Type := FF × FF × Int × FF
abbrev vwCl : List vw_C := [(RX0, TX0, 14), (RX1, TX1, 9)]
def wX (ad : Nat → Nat) (cI cB : ClassId) (T : TT) (C : CC) (O : OO) : va_W :=
  [(ad 0, .inr (0, [.int (zI T.1), .ref (ad 1), .ref (ad 2), .ref (ad 3), .ref (ad 4), .ref (ad 5), .int (zI C.2.1), .int (zI C.2.2.1), .ref (ad 6), .int (zI C.2.2.2.2), .int (zI O.1), .ref (ad 7), .int (zI O.2.2.1), .ref (ad 8)])), (ad 1, .inl (cI, 3, .inl (ar T.2.1))), (ad 2, .inl (cI, 3, .inl (ar T.2.2.1))), (ad 3, .inl (cI, 18, .inl (ar T.2.2.2.1))), (ad 4, .inl (cI, 18, .inl (ar T.2.2.2.2))), (ad 5, .inl (cB, 4200, .inl (ar C.1))), (ad 6, .inl (cI, 1372, .inl (ar C.2.2.2.1))), (ad 7, .inl (cI, 3, .inl (ar O.2.1))), (ad 8, .inl (cI, 18, .inl (ar O.2.2.2)))]
def wM (ad : Nat → Nat) (cI : ClassId) (T : TT) (N : NN) : va_W :=
  [(ad 0, .inr (1, [.int (zI T.1), .ref (ad 1), .ref (ad 2), .ref (ad 3), .ref (ad 4), .ref (ad 5), .ref (ad 6), .int (zI N.2.2.1), .ref (ad 7)])), (ad 1, .inl (cI, 18, .inl (ar T.2.2.2.1))), (ad 2, .inl (cI, 18, .inl (ar T.2.2.2.2))), (ad 3, .inl (cI, 3, .inl (ar T.2.1))), (ad 4, .inl (cI, 3, .inl (ar T.2.2.1))), (ad 5, .inl (cI, 12, .inl (ar N.1))), (ad 6, .inl (cI, 3, .inl (ar N.2.1))), (ad 7, .inl (cI, 18, .inl (ar N.2.2.2)))]
def ZH (D : va_G) (A : Nat → Prop) (H0 : Heap) (ws : va_W) (H : Heap) (locs : List Loc) : Prop := va_P D vwCl ws H ∧ va_D A ws ∧ va_S A H0 H locs
def Fx (p : Program) (s : State) (m : MethodId) (args : Array Value) (meth : Method) (c : Code) (D : va_G) (tys : List (ClassId × FieldType)) (A : Nat → Prop) (cc : ByteArray) (nL : Nat) (rt : Option FieldType) (own : String) : Prop :=
  p.tables.exec = Jvm.exec ∧ c.code = cc ∧ c.maxLocals = nL ∧ meth.sig.returnType = rt ∧ meth.locks = false ∧ s.vm.findClass own = some m.cls ∧ (∀ w ∈ lw_all, w.before args s = true) ∧ (∀ q : Nat, s.heap.size ≤ q → A q) ∧ va_K D vwCl tys s
section ZRows
variable {p : Program} {l : Launch} {e : Env} {R : Room} {s : State} {m : MethodId} {args : Array Value} {below : List Frame} {meth : Method} {c : Code} {H : Heap} {locs : List Loc} {cells slots : Nat} {Q : State → Prop}
variable {D : va_G} {tys : List (ClassId × FieldType)} {A : Nat → Prop} {cc : ByteArray} {nL : Nat} {rt : Option FieldType} {own : String} {pc : Nat} {ls : Array Slot} {rest : List Value} {ws : va_W}
theorem z_iconst (E : Fx p s m args meth c D tys A cc nL rt own) {n : Int} (hdg : decode cc pc = .ok (.iconst n, 1)) (k : W p l e R s m args below meth c H locs cells slots Q (F0 m (pc + 1) ls (.int (zI n) :: rest))) : W p l e R s m args below meth c H locs cells slots Q (F0 m pc ls rest) := lv_iconst E.1 E.2.1 hdg rfl k
theorem z_bipush (E : Fx p s m args meth c D tys A cc nL rt own) {n : Int} (hdg : decode cc pc = .ok (.bipush n, 2)) (hv : (Int8.ofInt n).toInt32 = zI n) (k : W p l e R s m args below meth c H locs cells slots Q (F0 m (pc + 2) ls (.int (zI n) :: rest))) : W p l e R s m args below meth c H locs cells slots Q (F0 m pc ls rest) := lv_bipush E.1 E.2.1 hdg hv k
theorem z_sipush (E : Fx p s m args meth c D tys A cc nL rt own) {n : Int} (hdg : decode cc pc = .ok (.sipush n, 3)) (hv : (Int16.ofInt n).toInt32 = zI n) (k : W p l e R s m args below meth c H locs cells slots Q (F0 m (pc + 3) ls (.int (zI n) :: rest))) : W p l e R s m args below meth c H locs cells slots Q (F0 m pc ls rest) := lv_sipush E.1 E.2.1 hdg hv k
theorem z_ldc (E : Fx p s m args meth c D tys A cc nL rt own) {idx : Nat} {v : Int32} (hq : Jvm.Cond.constant own idx v ∈ lw_all) (n : Int) (hv : v = zI n) (hdg : decode cc pc = .ok (.ldc idx, 2)) (k : W p l e R s m args below meth c H locs cells slots Q (F0 m (pc + 2) ls (.int (zI n) :: rest))) : W p l e R s m args below meth c H locs cells slots Q (F0 m pc ls rest) := by
  subst hv
  exact lv_ldc E.1 E.2.1 E.2.2.2.2.2.1 (E.2.2.2.2.2.2.1 _ hq) hdg k
theorem z_iadd (E : Fx p s m args meth c D tys A cc nL rt own) {x y : Int} (hdg : decode cc pc = .ok (.iadd, 1)) (k : W p l e R s m args below meth c H locs cells slots Q (F0 m (pc + 1) ls (.int (zI (x + y)) :: rest))) : W p l e R s m args below meth c H locs cells slots Q (F0 m pc ls (.int (zI y) :: .int (zI x) :: rest)) := by
  rw [← zI_add] at k
  exact lv_iadd E.1 E.2.1 hdg k
theorem z_isub (E : Fx p s m args meth c D tys A cc nL rt own) {x y : Int} (hdg : decode cc pc = .ok (.isub, 1)) (k : W p l e R s m args below meth c H locs cells slots Q (F0 m (pc + 1) ls (.int (zI (x - y)) :: rest))) : W p l e R s m args below meth c H locs cells slots Q (F0 m pc ls (.int (zI y) :: .int (zI x) :: rest)) := by
  rw [← zI_sub] at k
  exact lv_isub E.1 E.2.1 hdg k
theorem z_imul (E : Fx p s m args meth c D tys A cc nL rt own) {x y : Int} (hdg : decode cc pc = .ok (.imul, 1)) (k : W p l e R s m args below meth c H locs cells slots Q (F0 m (pc + 1) ls (.int (zI (x * y)) :: rest))) : W p l e R s m args below meth c H locs cells slots Q (F0 m pc ls (.int (zI y) :: .int (zI x) :: rest)) := by
  rw [← zI_mul] at k
  exact lv_imul E.1 E.2.1 hdg k
theorem z_idiv (E : Fx p s m args meth c D tys A cc nL rt own) {x y : Int} (hdg : decode cc pc = .ok (.idiv, 1)) (hx : 0 ≤ x ∧ x ≤ 2147483647) (hy : 0 < y ∧ y ≤ 2147483647) (k : W p l e R s m args below meth c H locs cells slots Q (F0 m (pc + 1) ls (.int (zI (x / y)) :: rest))) : W p l e R s m args below meth c H locs cells slots Q (F0 m pc ls (.int (zI y) :: .int (zI x) :: rest)) := by
  rw [← zI_div hx hy] at k
  exact lv_idiv E.1 E.2.1 hdg (zI_n0 hy) k
theorem z_irem (E : Fx p s m args meth c D tys A cc nL rt own) {x y : Int} (hdg : decode cc pc = .ok (.irem, 1)) (hx : 0 ≤ x ∧ x ≤ 2147483647) (hy : 0 < y ∧ y ≤ 2147483647) (k : W p l e R s m args below meth c H locs cells slots Q (F0 m (pc + 1) ls (.int (zI (x % y)) :: rest))) : W p l e R s m args below meth c H locs cells slots Q (F0 m pc ls (.int (zI y) :: .int (zI x) :: rest)) := by
  rw [← zI_rem hx hy] at k
  exact lv_irem E.1 E.2.1 hdg (zI_n0 hy) k
theorem z_i2b (E : Fx p s m args meth c D tys A cc nL rt own) {x : Int} (hdg : decode cc pc = .ok (.i2b, 1)) (hx : -128 ≤ x ∧ x ≤ 127) (k : W p l e R s m args below meth c H locs cells slots Q (F0 m (pc + 1) ls (.int (zI x) :: rest))) : W p l e R s m args below meth c H locs cells slots Q (F0 m pc ls (.int (zI x) :: rest)) := lv_i2b E.1 E.2.1 hdg (zI_byte hx) k
theorem z_iload_n (E : Fx p s m args meth c D tys A cc nL rt own) {k : Fin 4} {x : Int32} {lv : List (Nat × Value)} (hdg : decode cc pc = .ok (.iload_n k, 1)) (hl : lv_has ls nL lv) (j : Nat) (hj : lv[j]? = some (k.val, .int x)) (kk : W p l e R s m args below meth c H locs cells slots Q (F0 m (pc + 1) ls (.int x :: rest))) : W p l e R s m args below meth c H locs cells slots Q (F0 m pc ls rest) := lv_iload_n E.1 E.2.1 hdg rfl (lv_at hl j hj) kk
theorem z_iload (E : Fx p s m args meth c D tys A cc nL rt own) {i : Nat} {x : Int32} {lv : List (Nat × Value)} (hdg : decode cc pc = .ok (.iload i, 2)) (hl : lv_has ls nL lv) (j : Nat) (hj : lv[j]? = some (i, .int x)) (kk : W p l e R s m args below meth c H locs cells slots Q (F0 m (pc + 2) ls (.int x :: rest))) : W p l e R s m args below meth c H locs cells slots Q (F0 m pc ls rest) := lv_iload E.1 E.2.1 hdg (lv_at hl j hj) kk
theorem z_aload_n (E : Fx p s m args meth c D tys A cc nL rt own) {k : Fin 4} {x : Nat} {lv : List (Nat × Value)} (hdg : decode cc pc = .ok (.aload_n k, 1)) (hl : lv_has ls nL lv) (j : Nat) (hj : lv[j]? = some (k.val, .ref x)) (kk : W p l e R s m args below meth c H locs cells slots Q (F0 m (pc + 1) ls (.ref x :: rest))) : W p l e R s m args below meth c H locs cells slots Q (F0 m pc ls rest) := lv_aload_n E.1 E.2.1 hdg rfl (lv_at hl j hj) kk
theorem z_pick {i : Nat} {x : Int32} {lv lv' : List (Nat × Value)} (ks : List Nat) (hk : lv_pick ((i, Value.int x) :: lv.filter (fun q => !(q.1 == i) && !(q.1 + 1 == i && q.2.category == 2))) ks = lv') (h : lv_has ls nL ((i, Value.int x) :: lv.filter (fun q => !(q.1 == i) && !(q.1 + 1 == i && q.2.category == 2)))) : lv_has ls nL lv' := lv_sub h ks hk
theorem z_istore_n (E : Fx p s m args meth c D tys A cc nL rt own) {k : Fin 4} {x : Int32} {lv : List (Nat × Value)} (lv' : List (Nat × Value)) (hdg : decode cc pc = .ok (.istore_n k, 1)) (hl : lv_has ls nL lv) (hn : k.val < nL) (ks : List Nat) (hk : lv_pick ((k.val, Value.int x) :: lv.filter (fun q => !(q.1 == k.val) && !(q.1 + 1 == k.val && q.2.category == 2))) ks = lv') (kk : ∀ ls' : Array Slot, lv_has ls' nL lv' → W p l e R s m args below meth c H locs cells slots Q (F0 m (pc + 1) ls' rest)) : W p l e R s m args below meth c H locs cells slots Q (F0 m pc ls (.int x :: rest)) := lv_istore_n E.1 E.2.1 hdg rfl hl hn rfl (fun ls' h => kk ls' (lv_sub h ks hk))
theorem z_istore (E : Fx p s m args meth c D tys A cc nL rt own) {i : Nat} {x : Int32} {lv : List (Nat × Value)} (lv' : List (Nat × Value)) (hdg : decode cc pc = .ok (.istore i, 2)) (hl : lv_has ls nL lv) (hn : i < nL) (ks : List Nat) (hk : lv_pick ((i, Value.int x) :: lv.filter (fun q => !(q.1 == i) && !(q.1 + 1 == i && q.2.category == 2))) ks = lv') (kk : ∀ ls' : Array Slot, lv_has ls' nL lv' → W p l e R s m args below meth c H locs cells slots Q (F0 m (pc + 2) ls' rest)) : W p l e R s m args below meth c H locs cells slots Q (F0 m pc ls (.int x :: rest)) := lv_istore E.1 E.2.1 hdg hl hn rfl (fun ls' h => kk ls' (lv_sub h ks hk))
theorem z_iinc (E : Fx p s m args meth c D tys A cc nL rt own) {i : Nat} {n x : Int} {lv : List (Nat × Value)} (lv' : List (Nat × Value)) (hdg : decode cc pc = .ok (.iinc i n, 3)) (hl : lv_has ls nL lv) (j : Nat) (hj : lv[j]? = some (i, .int (zI x))) (hn : i < nL) (ks : List Nat) (hk : lv_pick ((i, Value.int (zI (x + n))) :: lv.filter (fun q => !(q.1 == i) && !(q.1 + 1 == i && q.2.category == 2))) ks = lv') (kk : ∀ ls' : Array Slot, lv_has ls' nL lv' → W p l e R s m args below meth c H locs cells slots Q (F0 m (pc + 3) ls' rest)) : W p l e R s m args below meth c H locs cells slots Q (F0 m pc ls rest) := lv_iinc E.1 E.2.1 hdg hl hj (zI_add x n) hn rfl (fun ls' h => kk ls' (lv_sub h ks hk))
theorem z_dup (E : Fx p s m args meth c D tys A cc nL rt own) {va : Value} (hdg : decode cc pc = .ok (.dup, 1)) (hva : va.category = 1) (k : W p l e R s m args below meth c H locs cells slots Q (F0 m (pc + 1) ls (va :: va :: rest))) : W p l e R s m args below meth c H locs cells slots Q (F0 m pc ls (va :: rest)) := lv_dup E.1 E.2.1 hdg hva k
theorem z_dup2 (E : Fx p s m args meth c D tys A cc nL rt own) {va vb : Value} (hdg : decode cc pc = .ok (.dup2, 1)) (hva : va.category = 1) (hvb : vb.category = 1) (k : W p l e R s m args below meth c H locs cells slots Q (F0 m (pc + 1) ls (va :: vb :: va :: vb :: rest))) : W p l e R s m args below meth c H locs cells slots Q (F0 m pc ls (va :: vb :: rest)) := lv_dup2_11 E.1 E.2.1 hdg hva hvb k
theorem z_goto (E : Fx p s m args meth c D tys A cc nL rt own) {off : Int} (tgt : Nat) (hdg : decode cc pc = .ok (.goto off, 3)) (ht : (pc : Int) + off = (tgt : Int)) (k : W p l e R s m args below meth c H locs cells slots Q (F0 m tgt ls rest)) : W p l e R s m args below meth c H locs cells slots Q (F0 m pc ls rest) := lv_goto E.1 E.2.1 hdg ht k
theorem z_icmp_eq (E : Fx p s m args meth c D tys A cc nL rt own) {x y : Int} {off : Int} (tgt : Nat) (hdg : decode cc pc = .ok (.if_icmp .eq off, 3)) (ht : (pc : Int) + off = (tgt : Int)) (hr : (-2147483648 ≤ x ∧ x ≤ 2147483647) ∧ (-2147483648 ≤ y ∧ y ≤ 2147483647)) (kt : x = y → W p l e R s m args below meth c H locs cells slots Q (F0 m tgt ls rest)) (kf : x ≠ y → W p l e R s m args below meth c H locs cells slots Q (F0 m (pc + 3) ls rest)) : W p l e R s m args below meth c H locs cells slots Q (F0 m pc ls (.int (zI y) :: .int (zI x) :: rest)) := lv_icmp_eq E.1 E.2.1 hdg ht (fun q => kt ((zI_eq hr).mp q)) (fun q => kf (fun z => q ((zI_eq hr).mpr z)))
theorem z_if_eq (E : Fx p s m args meth c D tys A cc nL rt own) {x : Int} {off : Int} (tgt : Nat) (hdg : decode cc pc = .ok (.ifCond .eq off, 3)) (ht : (pc : Int) + off = (tgt : Int)) (hr : -2147483648 ≤ x ∧ x ≤ 2147483647) (kt : x = 0 → W p l e R s m args below meth c H locs cells slots Q (F0 m tgt ls rest)) (kf : x ≠ 0 → W p l e R s m args below meth c H locs cells slots Q (F0 m (pc + 3) ls rest)) : W p l e R s m args below meth c H locs cells slots Q (F0 m pc ls (.int (zI x) :: rest)) := lv_if_eq E.1 E.2.1 hdg ht (fun q => kt ((zI_eq0 hr).mp q)) (fun q => kf (fun z => q ((zI_eq0 hr).mpr z)))
theorem z_icmp_ne (E : Fx p s m args meth c D tys A cc nL rt own) {x y : Int} {off : Int} (tgt : Nat) (hdg : decode cc pc = .ok (.if_icmp .ne off, 3)) (ht : (pc : Int) + off = (tgt : Int)) (hr : (-2147483648 ≤ x ∧ x ≤ 2147483647) ∧ (-2147483648 ≤ y ∧ y ≤ 2147483647)) (kt : x ≠ y → W p l e R s m args below meth c H locs cells slots Q (F0 m tgt ls rest)) (kf : x = y → W p l e R s m args below meth c H locs cells slots Q (F0 m (pc + 3) ls rest)) : W p l e R s m args below meth c H locs cells slots Q (F0 m pc ls (.int (zI y) :: .int (zI x) :: rest)) := lv_icmp_ne E.1 E.2.1 hdg ht (fun q => kt (fun z => q ((zI_eq hr).mpr z))) (fun q => kf ((zI_eq hr).mp q))
theorem z_if_ne (E : Fx p s m args meth c D tys A cc nL rt own) {x : Int} {off : Int} (tgt : Nat) (hdg : decode cc pc = .ok (.ifCond .ne off, 3)) (ht : (pc : Int) + off = (tgt : Int)) (hr : -2147483648 ≤ x ∧ x ≤ 2147483647) (kt : x ≠ 0 → W p l e R s m args below meth c H locs cells slots Q (F0 m tgt ls rest)) (kf : x = 0 → W p l e R s m args below meth c H locs cells slots Q (F0 m (pc + 3) ls rest)) : W p l e R s m args below meth c H locs cells slots Q (F0 m pc ls (.int (zI x) :: rest)) := lv_if_ne E.1 E.2.1 hdg ht (fun q => kt (fun z => q ((zI_eq0 hr).mpr z))) (fun q => kf ((zI_eq0 hr).mp q))
theorem z_icmp_lt (E : Fx p s m args meth c D tys A cc nL rt own) {x y : Int} {off : Int} (tgt : Nat) (hdg : decode cc pc = .ok (.if_icmp .lt off, 3)) (ht : (pc : Int) + off = (tgt : Int)) (hr : (-2147483648 ≤ x ∧ x ≤ 2147483647) ∧ (-2147483648 ≤ y ∧ y ≤ 2147483647)) (kt : x < y → W p l e R s m args below meth c H locs cells slots Q (F0 m tgt ls rest)) (kf : y ≤ x → W p l e R s m args below meth c H locs cells slots Q (F0 m (pc + 3) ls rest)) : W p l e R s m args below meth c H locs cells slots Q (F0 m pc ls (.int (zI y) :: .int (zI x) :: rest)) := lv_icmp_lt E.1 E.2.1 hdg ht (fun q => kt ((zI_lt hr).mp q)) (fun q => kf (Int.not_lt.mp (fun z => q ((zI_lt hr).mpr z))))
theorem z_if_lt (E : Fx p s m args meth c D tys A cc nL rt own) {x : Int} {off : Int} (tgt : Nat) (hdg : decode cc pc = .ok (.ifCond .lt off, 3)) (ht : (pc : Int) + off = (tgt : Int)) (hr : -2147483648 ≤ x ∧ x ≤ 2147483647) (kt : x < 0 → W p l e R s m args below meth c H locs cells slots Q (F0 m tgt ls rest)) (kf : 0 ≤ x → W p l e R s m args below meth c H locs cells slots Q (F0 m (pc + 3) ls rest)) : W p l e R s m args below meth c H locs cells slots Q (F0 m pc ls (.int (zI x) :: rest)) := lv_if_lt E.1 E.2.1 hdg ht (fun q => kt ((zI_lt0 hr).mp q)) (fun q => kf (Int.not_lt.mp (fun z => q ((zI_lt0 hr).mpr z))))
theorem z_icmp_ge (E : Fx p s m args meth c D tys A cc nL rt own) {x y : Int} {off : Int} (tgt : Nat) (hdg : decode cc pc = .ok (.if_icmp .ge off, 3)) (ht : (pc : Int) + off = (tgt : Int)) (hr : (-2147483648 ≤ x ∧ x ≤ 2147483647) ∧ (-2147483648 ≤ y ∧ y ≤ 2147483647)) (kt : y ≤ x → W p l e R s m args below meth c H locs cells slots Q (F0 m tgt ls rest)) (kf : x < y → W p l e R s m args below meth c H locs cells slots Q (F0 m (pc + 3) ls rest)) : W p l e R s m args below meth c H locs cells slots Q (F0 m pc ls (.int (zI y) :: .int (zI x) :: rest)) := lv_icmp_ge E.1 E.2.1 hdg ht (fun q => kt ((zI_le ⟨hr.2, hr.1⟩).mp q)) (fun q => kf (Int.not_le.mp (fun z => q ((zI_le ⟨hr.2, hr.1⟩).mpr z))))
theorem z_if_ge (E : Fx p s m args meth c D tys A cc nL rt own) {x : Int} {off : Int} (tgt : Nat) (hdg : decode cc pc = .ok (.ifCond .ge off, 3)) (ht : (pc : Int) + off = (tgt : Int)) (hr : -2147483648 ≤ x ∧ x ≤ 2147483647) (kt : 0 ≤ x → W p l e R s m args below meth c H locs cells slots Q (F0 m tgt ls rest)) (kf : x < 0 → W p l e R s m args below meth c H locs cells slots Q (F0 m (pc + 3) ls rest)) : W p l e R s m args below meth c H locs cells slots Q (F0 m pc ls (.int (zI x) :: rest)) := lv_if_ge E.1 E.2.1 hdg ht (fun q => kt ((zI_ge0 hr).mp q)) (fun q => kf (Int.not_le.mp (fun z => q ((zI_ge0 hr).mpr z))))
theorem z_icmp_gt (E : Fx p s m args meth c D tys A cc nL rt own) {x y : Int} {off : Int} (tgt : Nat) (hdg : decode cc pc = .ok (.if_icmp .gt off, 3)) (ht : (pc : Int) + off = (tgt : Int)) (hr : (-2147483648 ≤ x ∧ x ≤ 2147483647) ∧ (-2147483648 ≤ y ∧ y ≤ 2147483647)) (kt : y < x → W p l e R s m args below meth c H locs cells slots Q (F0 m tgt ls rest)) (kf : x ≤ y → W p l e R s m args below meth c H locs cells slots Q (F0 m (pc + 3) ls rest)) : W p l e R s m args below meth c H locs cells slots Q (F0 m pc ls (.int (zI y) :: .int (zI x) :: rest)) := lv_icmp_gt E.1 E.2.1 hdg ht (fun q => kt ((zI_lt ⟨hr.2, hr.1⟩).mp q)) (fun q => kf (Int.not_lt.mp (fun z => q ((zI_lt ⟨hr.2, hr.1⟩).mpr z))))
theorem z_if_gt (E : Fx p s m args meth c D tys A cc nL rt own) {x : Int} {off : Int} (tgt : Nat) (hdg : decode cc pc = .ok (.ifCond .gt off, 3)) (ht : (pc : Int) + off = (tgt : Int)) (hr : -2147483648 ≤ x ∧ x ≤ 2147483647) (kt : 0 < x → W p l e R s m args below meth c H locs cells slots Q (F0 m tgt ls rest)) (kf : x ≤ 0 → W p l e R s m args below meth c H locs cells slots Q (F0 m (pc + 3) ls rest)) : W p l e R s m args below meth c H locs cells slots Q (F0 m pc ls (.int (zI x) :: rest)) := lv_if_gt E.1 E.2.1 hdg ht (fun q => kt ((zI_gt0 hr).mp q)) (fun q => kf (Int.not_lt.mp (fun z => q ((zI_gt0 hr).mpr z))))
theorem z_icmp_le (E : Fx p s m args meth c D tys A cc nL rt own) {x y : Int} {off : Int} (tgt : Nat) (hdg : decode cc pc = .ok (.if_icmp .le off, 3)) (ht : (pc : Int) + off = (tgt : Int)) (hr : (-2147483648 ≤ x ∧ x ≤ 2147483647) ∧ (-2147483648 ≤ y ∧ y ≤ 2147483647)) (kt : x ≤ y → W p l e R s m args below meth c H locs cells slots Q (F0 m tgt ls rest)) (kf : y < x → W p l e R s m args below meth c H locs cells slots Q (F0 m (pc + 3) ls rest)) : W p l e R s m args below meth c H locs cells slots Q (F0 m pc ls (.int (zI y) :: .int (zI x) :: rest)) := lv_icmp_le E.1 E.2.1 hdg ht (fun q => kt ((zI_le hr).mp q)) (fun q => kf (Int.not_le.mp (fun z => q ((zI_le hr).mpr z))))
theorem z_if_le (E : Fx p s m args meth c D tys A cc nL rt own) {x : Int} {off : Int} (tgt : Nat) (hdg : decode cc pc = .ok (.ifCond .le off, 3)) (ht : (pc : Int) + off = (tgt : Int)) (hr : -2147483648 ≤ x ∧ x ≤ 2147483647) (kt : x ≤ 0 → W p l e R s m args below meth c H locs cells slots Q (F0 m tgt ls rest)) (kf : 0 < x → W p l e R s m args below meth c H locs cells slots Q (F0 m (pc + 3) ls rest)) : W p l e R s m args below meth c H locs cells slots Q (F0 m pc ls (.int (zI x) :: rest)) := lv_if_le E.1 E.2.1 hdg ht (fun q => kt ((zI_le0 hr).mp q)) (fun q => kf (Int.not_le.mp (fun z => q ((zI_le0 hr).mpr z))))
end ZRows
end
section
section ZX
variable {p : Program} {l : Launch} {e : Env} {R : Room} {s : State} {m : MethodId} {args : Array Value} {below : List Frame} {meth : Method} {c : Code} {H : Heap} {locs : List Loc} {cells slots : Nat} {Q : State → Prop}
variable {D : va_G} {A : Nat → Prop} {cc : ByteArray} {nL : Nat} {rt : Option FieldType} {pc : Nat} {ls : Array Slot} {rest : List Value} {ad : Nat → Nat} {cI cB : ClassId}
variable {ex lr qr wf at_ rs : Int} {il ol iL oL ld wy pr gv : FF}
theorem gX_ex (E : Fx p s m args meth c D [(cI, .int), (cB, .byte)] A cc nL rt RX0) (h : ZH D A s.heap (wX ad cI cB (ex, il, ol, iL, oL) (ld, lr, qr, wy, wf) (at_, pr, rs, gv)) H locs) (hdg : decode cc pc = .ok (.getfield 49, 3)) (kk : W p l e R s m args below meth c H locs cells slots Q (F0 m (pc + 3) ls (.int (zI ex) :: rest))) : W p l e R s m args below meth c H locs cells slots Q (F0 m pc ls (.ref (ad 0) :: rest)) := va_get (D := D) (ci := 0) (v := .int (zI ex)) (C := RX0) (T := TX0) (N := 14) E.1 E.2.1 E.2.2.2.2.2.2.1 in_X0 E.2.2.2.2.2.1 E.2.2.2.2.2.2.2.2 h.1 0 rfl rfl 0 (by decide) (E.2.2.2.2.2.2.1 _ q43) (fun _ h9 => h9) rfl hdg kk
theorem pX_ex (E : Fx p s m args meth c D [(cI, .int), (cB, .byte)] A cc nL rt RX0) (h : ZH D A s.heap (wX ad cI cB (ex, il, ol, iL, oL) (ld, lr, qr, wy, wf) (at_, pr, rs, gv)) H locs) {x_ : Int} (hdg : decode cc pc = .ok (.putfield 49, 3)) (kk : ∀ (H1 : Heap) (locs1 : List Loc), ZH D A s.heap (wX ad cI cB (x_, il, ol, iL, oL) (ld, lr, qr, wy, wf) (at_, pr, rs, gv)) H1 locs1 → W p l e R s m args below meth c H1 locs1 cells slots Q (F0 m (pc + 3) ls rest)) : W p l e R s m args below meth c H locs cells slots Q (F0 m pc ls (.int (zI x_) :: .ref (ad 0) :: rest)) := va_put (D := D) (ci := 0) (v := .int (zI x_)) (ty := .int) (C := RX0) (T := TX0) (N := 14) E.1 E.2.1 E.2.2.2.2.2.2.1 in_X0 tyX0 tyX0_ok nmX0 E.2.2.2.2.2.1 E.2.2.2.2.2.2.2.2 h.1 h.2.1 h.2.2 0 rfl rfl 0 (by decide) (E.2.2.2.2.2.2.1 _ q43) (fun _ h9 => h9) rfl (by decide +kernel) rfl rfl (Nat.le_of_ble_eq_true rfl) hdg (fun H1 locs1 hP hD hS => kk H1 locs1 ⟨hP, hD, hS⟩)
theorem gX_lr (E : Fx p s m args meth c D [(cI, .int), (cB, .byte)] A cc nL rt RX0) (h : ZH D A s.heap (wX ad cI cB (ex, il, ol, iL, oL) (ld, lr, qr, wy, wf) (at_, pr, rs, gv)) H locs) (hdg : decode cc pc = .ok (.getfield 43, 3)) (kk : W p l e R s m args below meth c H locs cells slots Q (F0 m (pc + 3) ls (.int (zI lr) :: rest))) : W p l e R s m args below meth c H locs cells slots Q (F0 m pc ls (.ref (ad 0) :: rest)) := va_get (D := D) (ci := 0) (v := .int (zI lr)) (C := RX0) (T := TX0) (N := 14) E.1 E.2.1 E.2.2.2.2.2.2.1 in_X0 E.2.2.2.2.2.1 E.2.2.2.2.2.2.2.2 h.1 0 rfl rfl 6 (by decide) (E.2.2.2.2.2.2.1 _ q49) (fun _ h9 => h9) rfl hdg kk
theorem pX_lr (E : Fx p s m args meth c D [(cI, .int), (cB, .byte)] A cc nL rt RX0) (h : ZH D A s.heap (wX ad cI cB (ex, il, ol, iL, oL) (ld, lr, qr, wy, wf) (at_, pr, rs, gv)) H locs) {x_ : Int} (hv : x_ = 0 ∨ x_ = 1) (hdg : decode cc pc = .ok (.putfield 43, 3)) (kk : ∀ (H1 : Heap) (locs1 : List Loc), ZH D A s.heap (wX ad cI cB (ex, il, ol, iL, oL) (ld, x_, qr, wy, wf) (at_, pr, rs, gv)) H1 locs1 → W p l e R s m args below meth c H1 locs1 cells slots Q (F0 m (pc + 3) ls rest)) : W p l e R s m args below meth c H locs cells slots Q (F0 m pc ls (.int (zI x_) :: .ref (ad 0) :: rest)) := va_put (D := D) (ci := 0) (v := .int (zI x_)) (ty := .boolean) (C := RX0) (T := TX0) (N := 14) E.1 E.2.1 E.2.2.2.2.2.2.1 in_X0 tyX0 tyX0_ok nmX0 E.2.2.2.2.2.1 E.2.2.2.2.2.2.2.2 h.1 h.2.1 h.2.2 0 rfl rfl 6 (by decide) (E.2.2.2.2.2.2.1 _ q49) (fun _ h9 => h9) rfl (by decide +kernel) (zI_bool hv).1 (zI_bool hv).2 (Nat.le_of_ble_eq_true rfl) hdg (fun H1 locs1 hP hD hS => kk H1 locs1 ⟨hP, hD, hS⟩)
theorem gX_qr (E : Fx p s m args meth c D [(cI, .int), (cB, .byte)] A cc nL rt RX0) (h : ZH D A s.heap (wX ad cI cB (ex, il, ol, iL, oL) (ld, lr, qr, wy, wf) (at_, pr, rs, gv)) H locs) (hdg : decode cc pc = .ok (.getfield 39, 3)) (kk : W p l e R s m args below meth c H locs cells slots Q (F0 m (pc + 3) ls (.int (zI qr) :: rest))) : W p l e R s m args below meth c H locs cells slots Q (F0 m pc ls (.ref (ad 0) :: rest)) := va_get (D := D) (ci := 0) (v := .int (zI qr)) (C := RX0) (T := TX0) (N := 14) E.1 E.2.1 E.2.2.2.2.2.2.1 in_X0 E.2.2.2.2.2.1 E.2.2.2.2.2.2.2.2 h.1 0 rfl rfl 7 (by decide) (E.2.2.2.2.2.2.1 _ q50) (fun _ h9 => h9) rfl hdg kk
theorem pX_qr (E : Fx p s m args meth c D [(cI, .int), (cB, .byte)] A cc nL rt RX0) (h : ZH D A s.heap (wX ad cI cB (ex, il, ol, iL, oL) (ld, lr, qr, wy, wf) (at_, pr, rs, gv)) H locs) {x_ : Int} (hv : x_ = 0 ∨ x_ = 1) (hdg : decode cc pc = .ok (.putfield 39, 3)) (kk : ∀ (H1 : Heap) (locs1 : List Loc), ZH D A s.heap (wX ad cI cB (ex, il, ol, iL, oL) (ld, lr, x_, wy, wf) (at_, pr, rs, gv)) H1 locs1 → W p l e R s m args below meth c H1 locs1 cells slots Q (F0 m (pc + 3) ls rest)) : W p l e R s m args below meth c H locs cells slots Q (F0 m pc ls (.int (zI x_) :: .ref (ad 0) :: rest)) := va_put (D := D) (ci := 0) (v := .int (zI x_)) (ty := .boolean) (C := RX0) (T := TX0) (N := 14) E.1 E.2.1 E.2.2.2.2.2.2.1 in_X0 tyX0 tyX0_ok nmX0 E.2.2.2.2.2.1 E.2.2.2.2.2.2.2.2 h.1 h.2.1 h.2.2 0 rfl rfl 7 (by decide) (E.2.2.2.2.2.2.1 _ q50) (fun _ h9 => h9) rfl (by decide +kernel) (zI_bool hv).1 (zI_bool hv).2 (Nat.le_of_ble_eq_true rfl) hdg (fun H1 locs1 hP hD hS => kk H1 locs1 ⟨hP, hD, hS⟩)
theorem gX_wf (E : Fx p s m args meth c D [(cI, .int), (cB, .byte)] A cc nL rt RX0) (h : ZH D A s.heap (wX ad cI cB (ex, il, ol, iL, oL) (ld, lr, qr, wy, wf) (at_, pr, rs, gv)) H locs) (hdg : decode cc pc = .ok (.getfield 35, 3)) (kk : W p l e R s m args below meth c H locs cells slots Q (F0 m (pc + 3) ls (.int (zI wf) :: rest))) : W p l e R s m args below meth c H locs cells slots Q (F0 m pc ls (.ref (ad 0) :: rest)) := va_get (D := D) (ci := 0) (v := .int (zI wf)) (C := RX0) (T := TX0) (N := 14) E.1 E.2.1 E.2.2.2.2.2.2.1 in_X0 E.2.2.2.2.2.1 E.2.2.2.2.2.2.2.2 h.1 0 rfl rfl 9 (by decide) (E.2.2.2.2.2.2.1 _ q52) (fun _ h9 => h9) rfl hdg kk
theorem pX_wf (E : Fx p s m args meth c D [(cI, .int), (cB, .byte)] A cc nL rt RX0) (h : ZH D A s.heap (wX ad cI cB (ex, il, ol, iL, oL) (ld, lr, qr, wy, wf) (at_, pr, rs, gv)) H locs) {x_ : Int} (hdg : decode cc pc = .ok (.putfield 35, 3)) (kk : ∀ (H1 : Heap) (locs1 : List Loc), ZH D A s.heap (wX ad cI cB (ex, il, ol, iL, oL) (ld, lr, qr, wy, x_) (at_, pr, rs, gv)) H1 locs1 → W p l e R s m args below meth c H1 locs1 cells slots Q (F0 m (pc + 3) ls rest)) : W p l e R s m args below meth c H locs cells slots Q (F0 m pc ls (.int (zI x_) :: .ref (ad 0) :: rest)) := va_put (D := D) (ci := 0) (v := .int (zI x_)) (ty := .int) (C := RX0) (T := TX0) (N := 14) E.1 E.2.1 E.2.2.2.2.2.2.1 in_X0 tyX0 tyX0_ok nmX0 E.2.2.2.2.2.1 E.2.2.2.2.2.2.2.2 h.1 h.2.1 h.2.2 0 rfl rfl 9 (by decide) (E.2.2.2.2.2.2.1 _ q52) (fun _ h9 => h9) rfl (by decide +kernel) rfl rfl (Nat.le_of_ble_eq_true rfl) hdg (fun H1 locs1 hP hD hS => kk H1 locs1 ⟨hP, hD, hS⟩)
theorem gX_at_ (E : Fx p s m args meth c D [(cI, .int), (cB, .byte)] A cc nL rt RX0) (h : ZH D A s.heap (wX ad cI cB (ex, il, ol, iL, oL) (ld, lr, qr, wy, wf) (at_, pr, rs, gv)) H locs) (hdg : decode cc pc = .ok (.getfield 109, 3)) (kk : W p l e R s m args below meth c H locs cells slots Q (F0 m (pc + 3) ls (.int (zI at_) :: rest))) : W p l e R s m args below meth c H locs cells slots Q (F0 m pc ls (.ref (ad 0) :: rest)) := va_get (D := D) (ci := 0) (v := .int (zI at_)) (C := RX0) (T := TX0) (N := 14) E.1 E.2.1 E.2.2.2.2.2.2.1 in_X0 E.2.2.2.2.2.1 E.2.2.2.2.2.2.2.2 h.1 0 rfl rfl 10 (by decide) (E.2.2.2.2.2.2.1 _ q53) (fun _ h9 => h9) rfl hdg kk
theorem pX_at_ (E : Fx p s m args meth c D [(cI, .int), (cB, .byte)] A cc nL rt RX0) (h : ZH D A s.heap (wX ad cI cB (ex, il, ol, iL, oL) (ld, lr, qr, wy, wf) (at_, pr, rs, gv)) H locs) {x_ : Int} (hdg : decode cc pc = .ok (.putfield 109, 3)) (kk : ∀ (H1 : Heap) (locs1 : List Loc), ZH D A s.heap (wX ad cI cB (ex, il, ol, iL, oL) (ld, lr, qr, wy, wf) (x_, pr, rs, gv)) H1 locs1 → W p l e R s m args below meth c H1 locs1 cells slots Q (F0 m (pc + 3) ls rest)) : W p l e R s m args below meth c H locs cells slots Q (F0 m pc ls (.int (zI x_) :: .ref (ad 0) :: rest)) := va_put (D := D) (ci := 0) (v := .int (zI x_)) (ty := .int) (C := RX0) (T := TX0) (N := 14) E.1 E.2.1 E.2.2.2.2.2.2.1 in_X0 tyX0 tyX0_ok nmX0 E.2.2.2.2.2.1 E.2.2.2.2.2.2.2.2 h.1 h.2.1 h.2.2 0 rfl rfl 10 (by decide) (E.2.2.2.2.2.2.1 _ q53) (fun _ h9 => h9) rfl (by decide +kernel) rfl rfl (Nat.le_of_ble_eq_true rfl) hdg (fun H1 locs1 hP hD hS => kk H1 locs1 ⟨hP, hD, hS⟩)
theorem gX_rs (E : Fx p s m args meth c D [(cI, .int), (cB, .byte)] A cc nL rt RX0) (h : ZH D A s.heap (wX ad cI cB (ex, il, ol, iL, oL) (ld, lr, qr, wy, wf) (at_, pr, rs, gv)) H locs) (hdg : decode cc pc = .ok (.getfield 119, 3)) (kk : W p l e R s m args below meth c H locs cells slots Q (F0 m (pc + 3) ls (.int (zI rs) :: rest))) : W p l e R s m args below meth c H locs cells slots Q (F0 m pc ls (.ref (ad 0) :: rest)) := va_get (D := D) (ci := 0) (v := .int (zI rs)) (C := RX0) (T := TX0) (N := 14) E.1 E.2.1 E.2.2.2.2.2.2.1 in_X0 E.2.2.2.2.2.1 E.2.2.2.2.2.2.2.2 h.1 0 rfl rfl 12 (by decide) (E.2.2.2.2.2.2.1 _ q55) (fun _ h9 => h9) rfl hdg kk
theorem pX_rs (E : Fx p s m args meth c D [(cI, .int), (cB, .byte)] A cc nL rt RX0) (h : ZH D A s.heap (wX ad cI cB (ex, il, ol, iL, oL) (ld, lr, qr, wy, wf) (at_, pr, rs, gv)) H locs) {x_ : Int} (hdg : decode cc pc = .ok (.putfield 119, 3)) (kk : ∀ (H1 : Heap) (locs1 : List Loc), ZH D A s.heap (wX ad cI cB (ex, il, ol, iL, oL) (ld, lr, qr, wy, wf) (at_, pr, x_, gv)) H1 locs1 → W p l e R s m args below meth c H1 locs1 cells slots Q (F0 m (pc + 3) ls rest)) : W p l e R s m args below meth c H locs cells slots Q (F0 m pc ls (.int (zI x_) :: .ref (ad 0) :: rest)) := va_put (D := D) (ci := 0) (v := .int (zI x_)) (ty := .int) (C := RX0) (T := TX0) (N := 14) E.1 E.2.1 E.2.2.2.2.2.2.1 in_X0 tyX0 tyX0_ok nmX0 E.2.2.2.2.2.1 E.2.2.2.2.2.2.2.2 h.1 h.2.1 h.2.2 0 rfl rfl 12 (by decide) (E.2.2.2.2.2.2.1 _ q55) (fun _ h9 => h9) rfl (by decide +kernel) rfl rfl (Nat.le_of_ble_eq_true rfl) hdg (fun H1 locs1 hP hD hS => kk H1 locs1 ⟨hP, hD, hS⟩)
theorem gX_il (E : Fx p s m args meth c D [(cI, .int), (cB, .byte)] A cc nL rt RX0) (h : ZH D A s.heap (wX ad cI cB (ex, il, ol, iL, oL) (ld, lr, qr, wy, wf) (at_, pr, rs, gv)) H locs) (hdg : decode cc pc = .ok (.getfield 7, 3)) (kk : W p l e R s m args below meth c H locs cells slots Q (F0 m (pc + 3) ls (.ref (ad 1) :: rest))) : W p l e R s m args below meth c H locs cells slots Q (F0 m pc ls (.ref (ad 0) :: rest)) := va_get (D := D) (ci := 0) (v := .ref (ad 1)) (C := RX0) (T := TX0) (N := 14) E.1 E.2.1 E.2.2.2.2.2.2.1 in_X0 E.2.2.2.2.2.1 E.2.2.2.2.2.2.2.2 h.1 0 rfl rfl 1 (by decide) (E.2.2.2.2.2.2.1 _ q44) (fun _ h9 => h9) rfl hdg kk
theorem lX_il (E : Fx p s m args meth c D [(cI, .int), (cB, .byte)] A cc nL rt RX0) (h : ZH D A s.heap (wX ad cI cB (ex, il, ol, iL, oL) (ld, lr, qr, wy, wf) (at_, pr, rs, gv)) H locs) {i : Int} (hi : 0 ≤ i ∧ i < 3) (hdg : decode cc pc = .ok (.iaload, 1)) (kk : ∀ x : Int, x = il i → W p l e R s m args below meth c H locs cells slots Q (F0 m (pc + 1) ls (.int (zI x) :: rest))) : W p l e R s m args below meth c H locs cells slots Q (F0 m pc ls (.int (zI i) :: .ref (ad 1) :: rest)) := va_iald E.1 E.2.1 E.2.2.2.2.2.2.2.2 h.1 1 0 rfl rfl (zI_in hi (by decide)) hdg (by rw [ar_at (f := il) (by omega)]; exact kk _ rfl)
theorem sX_il (E : Fx p s m args meth c D [(cI, .int), (cB, .byte)] A cc nL rt RX0) (h : ZH D A s.heap (wX ad cI cB (ex, il, ol, iL, oL) (ld, lr, qr, wy, wf) (at_, pr, rs, gv)) H locs) {i x_ : Int} (hi : 0 ≤ i ∧ i < 3) (hdg : decode cc pc = .ok (.iastore, 1)) (kk : ∀ (H1 : Heap) (locs1 : List Loc), ZH D A s.heap (wX ad cI cB (ex, up il i x_, ol, iL, oL) (ld, lr, qr, wy, wf) (at_, pr, rs, gv)) H1 locs1 → W p l e R s m args below meth c H1 locs1 cells slots Q (F0 m (pc + 1) ls rest)) : W p l e R s m args below meth c H locs cells slots Q (F0 m pc ls (.int (zI x_) :: .int (zI i) :: .ref (ad 1) :: rest)) := va_iast E.1 E.2.1 E.2.2.2.2.2.2.2.2 h.1 h.2.1 h.2.2 1 0 rfl rfl (zI_in hi (by decide)) hdg (fun H1 locs1 hP hD hS => by
  rw [ar_up (f := il) (by omega)] at hP hD
  exact kk H1 locs1 ⟨hP, hD, hS⟩)
theorem gX_ol (E : Fx p s m args meth c D [(cI, .int), (cB, .byte)] A cc nL rt RX0) (h : ZH D A s.heap (wX ad cI cB (ex, il, ol, iL, oL) (ld, lr, qr, wy, wf) (at_, pr, rs, gv)) H locs) (hdg : decode cc pc = .ok (.getfield 13, 3)) (kk : W p l e R s m args below meth c H locs cells slots Q (F0 m (pc + 3) ls (.ref (ad 2) :: rest))) : W p l e R s m args below meth c H locs cells slots Q (F0 m pc ls (.ref (ad 0) :: rest)) := va_get (D := D) (ci := 0) (v := .ref (ad 2)) (C := RX0) (T := TX0) (N := 14) E.1 E.2.1 E.2.2.2.2.2.2.1 in_X0 E.2.2.2.2.2.1 E.2.2.2.2.2.2.2.2 h.1 0 rfl rfl 2 (by decide) (E.2.2.2.2.2.2.1 _ q45) (fun _ h9 => h9) rfl hdg kk
theorem lX_ol (E : Fx p s m args meth c D [(cI, .int), (cB, .byte)] A cc nL rt RX0) (h : ZH D A s.heap (wX ad cI cB (ex, il, ol, iL, oL) (ld, lr, qr, wy, wf) (at_, pr, rs, gv)) H locs) {i : Int} (hi : 0 ≤ i ∧ i < 3) (hdg : decode cc pc = .ok (.iaload, 1)) (kk : ∀ x : Int, x = ol i → W p l e R s m args below meth c H locs cells slots Q (F0 m (pc + 1) ls (.int (zI x) :: rest))) : W p l e R s m args below meth c H locs cells slots Q (F0 m pc ls (.int (zI i) :: .ref (ad 2) :: rest)) := va_iald E.1 E.2.1 E.2.2.2.2.2.2.2.2 h.1 2 0 rfl rfl (zI_in hi (by decide)) hdg (by rw [ar_at (f := ol) (by omega)]; exact kk _ rfl)
theorem sX_ol (E : Fx p s m args meth c D [(cI, .int), (cB, .byte)] A cc nL rt RX0) (h : ZH D A s.heap (wX ad cI cB (ex, il, ol, iL, oL) (ld, lr, qr, wy, wf) (at_, pr, rs, gv)) H locs) {i x_ : Int} (hi : 0 ≤ i ∧ i < 3) (hdg : decode cc pc = .ok (.iastore, 1)) (kk : ∀ (H1 : Heap) (locs1 : List Loc), ZH D A s.heap (wX ad cI cB (ex, il, up ol i x_, iL, oL) (ld, lr, qr, wy, wf) (at_, pr, rs, gv)) H1 locs1 → W p l e R s m args below meth c H1 locs1 cells slots Q (F0 m (pc + 1) ls rest)) : W p l e R s m args below meth c H locs cells slots Q (F0 m pc ls (.int (zI x_) :: .int (zI i) :: .ref (ad 2) :: rest)) := va_iast E.1 E.2.1 E.2.2.2.2.2.2.2.2 h.1 h.2.1 h.2.2 2 0 rfl rfl (zI_in hi (by decide)) hdg (fun H1 locs1 hP hD hS => by
  rw [ar_up (f := ol) (by omega)] at hP hD
  exact kk H1 locs1 ⟨hP, hD, hS⟩)
theorem gX_iL (E : Fx p s m args meth c D [(cI, .int), (cB, .byte)] A cc nL rt RX0) (h : ZH D A s.heap (wX ad cI cB (ex, il, ol, iL, oL) (ld, lr, qr, wy, wf) (at_, pr, rs, gv)) H locs) (hdg : decode cc pc = .ok (.getfield 16, 3)) (kk : W p l e R s m args below meth c H locs cells slots Q (F0 m (pc + 3) ls (.ref (ad 3) :: rest))) : W p l e R s m args below meth c H locs cells slots Q (F0 m pc ls (.ref (ad 0) :: rest)) := va_get (D := D) (ci := 0) (v := .ref (ad 3)) (C := RX0) (T := TX0) (N := 14) E.1 E.2.1 E.2.2.2.2.2.2.1 in_X0 E.2.2.2.2.2.1 E.2.2.2.2.2.2.2.2 h.1 0 rfl rfl 3 (by decide) (E.2.2.2.2.2.2.1 _ q46) (fun _ h9 => h9) rfl hdg kk
theorem lX_iL (E : Fx p s m args meth c D [(cI, .int), (cB, .byte)] A cc nL rt RX0) (h : ZH D A s.heap (wX ad cI cB (ex, il, ol, iL, oL) (ld, lr, qr, wy, wf) (at_, pr, rs, gv)) H locs) {i : Int} (hi : 0 ≤ i ∧ i < 18) (hdg : decode cc pc = .ok (.iaload, 1)) (kk : ∀ x : Int, x = iL i → W p l e R s m args below meth c H locs cells slots Q (F0 m (pc + 1) ls (.int (zI x) :: rest))) : W p l e R s m args below meth c H locs cells slots Q (F0 m pc ls (.int (zI i) :: .ref (ad 3) :: rest)) := va_iald E.1 E.2.1 E.2.2.2.2.2.2.2.2 h.1 3 0 rfl rfl (zI_in hi (by decide)) hdg (by rw [ar_at (f := iL) (by omega)]; exact kk _ rfl)
theorem sX_iL (E : Fx p s m args meth c D [(cI, .int), (cB, .byte)] A cc nL rt RX0) (h : ZH D A s.heap (wX ad cI cB (ex, il, ol, iL, oL) (ld, lr, qr, wy, wf) (at_, pr, rs, gv)) H locs) {i x_ : Int} (hi : 0 ≤ i ∧ i < 18) (hdg : decode cc pc = .ok (.iastore, 1)) (kk : ∀ (H1 : Heap) (locs1 : List Loc), ZH D A s.heap (wX ad cI cB (ex, il, ol, up iL i x_, oL) (ld, lr, qr, wy, wf) (at_, pr, rs, gv)) H1 locs1 → W p l e R s m args below meth c H1 locs1 cells slots Q (F0 m (pc + 1) ls rest)) : W p l e R s m args below meth c H locs cells slots Q (F0 m pc ls (.int (zI x_) :: .int (zI i) :: .ref (ad 3) :: rest)) := va_iast E.1 E.2.1 E.2.2.2.2.2.2.2.2 h.1 h.2.1 h.2.2 3 0 rfl rfl (zI_in hi (by decide)) hdg (fun H1 locs1 hP hD hS => by
  rw [ar_up (f := iL) (by omega)] at hP hD
  exact kk H1 locs1 ⟨hP, hD, hS⟩)
theorem gX_oL (E : Fx p s m args meth c D [(cI, .int), (cB, .byte)] A cc nL rt RX0) (h : ZH D A s.heap (wX ad cI cB (ex, il, ol, iL, oL) (ld, lr, qr, wy, wf) (at_, pr, rs, gv)) H locs) (hdg : decode cc pc = .ok (.getfield 19, 3)) (kk : W p l e R s m args below meth c H locs cells slots Q (F0 m (pc + 3) ls (.ref (ad 4) :: rest))) : W p l e R s m args below meth c H locs cells slots Q (F0 m pc ls (.ref (ad 0) :: rest)) := va_get (D := D) (ci := 0) (v := .ref (ad 4)) (C := RX0) (T := TX0) (N := 14) E.1 E.2.1 E.2.2.2.2.2.2.1 in_X0 E.2.2.2.2.2.1 E.2.2.2.2.2.2.2.2 h.1 0 rfl rfl 4 (by decide) (E.2.2.2.2.2.2.1 _ q47) (fun _ h9 => h9) rfl hdg kk
theorem lX_oL (E : Fx p s m args meth c D [(cI, .int), (cB, .byte)] A cc nL rt RX0) (h : ZH D A s.heap (wX ad cI cB (ex, il, ol, iL, oL) (ld, lr, qr, wy, wf) (at_, pr, rs, gv)) H locs) {i : Int} (hi : 0 ≤ i ∧ i < 18) (hdg : decode cc pc = .ok (.iaload, 1)) (kk : ∀ x : Int, x = oL i → W p l e R s m args below meth c H locs cells slots Q (F0 m (pc + 1) ls (.int (zI x) :: rest))) : W p l e R s m args below meth c H locs cells slots Q (F0 m pc ls (.int (zI i) :: .ref (ad 4) :: rest)) := va_iald E.1 E.2.1 E.2.2.2.2.2.2.2.2 h.1 4 0 rfl rfl (zI_in hi (by decide)) hdg (by rw [ar_at (f := oL) (by omega)]; exact kk _ rfl)
theorem sX_oL (E : Fx p s m args meth c D [(cI, .int), (cB, .byte)] A cc nL rt RX0) (h : ZH D A s.heap (wX ad cI cB (ex, il, ol, iL, oL) (ld, lr, qr, wy, wf) (at_, pr, rs, gv)) H locs) {i x_ : Int} (hi : 0 ≤ i ∧ i < 18) (hdg : decode cc pc = .ok (.iastore, 1)) (kk : ∀ (H1 : Heap) (locs1 : List Loc), ZH D A s.heap (wX ad cI cB (ex, il, ol, iL, up oL i x_) (ld, lr, qr, wy, wf) (at_, pr, rs, gv)) H1 locs1 → W p l e R s m args below meth c H1 locs1 cells slots Q (F0 m (pc + 1) ls rest)) : W p l e R s m args below meth c H locs cells slots Q (F0 m pc ls (.int (zI x_) :: .int (zI i) :: .ref (ad 4) :: rest)) := va_iast E.1 E.2.1 E.2.2.2.2.2.2.2.2 h.1 h.2.1 h.2.2 4 0 rfl rfl (zI_in hi (by decide)) hdg (fun H1 locs1 hP hD hS => by
  rw [ar_up (f := oL) (by omega)] at hP hD
  exact kk H1 locs1 ⟨hP, hD, hS⟩)
theorem gX_ld (E : Fx p s m args meth c D [(cI, .int), (cB, .byte)] A cc nL rt RX0) (h : ZH D A s.heap (wX ad cI cB (ex, il, ol, iL, oL) (ld, lr, qr, wy, wf) (at_, pr, rs, gv)) H locs) (hdg : decode cc pc = .ok (.getfield 22, 3)) (kk : W p l e R s m args below meth c H locs cells slots Q (F0 m (pc + 3) ls (.ref (ad 5) :: rest))) : W p l e R s m args below meth c H locs cells slots Q (F0 m pc ls (.ref (ad 0) :: rest)) := va_get (D := D) (ci := 0) (v := .ref (ad 5)) (C := RX0) (T := TX0) (N := 14) E.1 E.2.1 E.2.2.2.2.2.2.1 in_X0 E.2.2.2.2.2.1 E.2.2.2.2.2.2.2.2 h.1 0 rfl rfl 5 (by decide) (E.2.2.2.2.2.2.1 _ q48) (fun _ h9 => h9) rfl hdg kk
theorem lX_ld (E : Fx p s m args meth c D [(cI, .int), (cB, .byte)] A cc nL rt RX0) (h : ZH D A s.heap (wX ad cI cB (ex, il, ol, iL, oL) (ld, lr, qr, wy, wf) (at_, pr, rs, gv)) H locs) {i : Int} (hi : 0 ≤ i ∧ i < 4200) (hdg : decode cc pc = .ok (.baload, 1)) (kk : ∀ x : Int, x = ld i → W p l e R s m args below meth c H locs cells slots Q (F0 m (pc + 1) ls (.int (zI x) :: rest))) : W p l e R s m args below meth c H locs cells slots Q (F0 m pc ls (.int (zI i) :: .ref (ad 5) :: rest)) := va_bald E.1 E.2.1 E.2.2.2.2.2.2.2.2 h.1 5 1 rfl rfl (zI_in hi (by decide)) hdg (by rw [ar_at (f := ld) (by omega)]; exact kk _ rfl)
theorem sX_ld (E : Fx p s m args meth c D [(cI, .int), (cB, .byte)] A cc nL rt RX0) (h : ZH D A s.heap (wX ad cI cB (ex, il, ol, iL, oL) (ld, lr, qr, wy, wf) (at_, pr, rs, gv)) H locs) {i x_ : Int} (hi : 0 ≤ i ∧ i < 4200) (hv : -128 ≤ x_ ∧ x_ ≤ 127) (hdg : decode cc pc = .ok (.bastore, 1)) (kk : ∀ (H1 : Heap) (locs1 : List Loc), ZH D A s.heap (wX ad cI cB (ex, il, ol, iL, oL) (up ld i x_, lr, qr, wy, wf) (at_, pr, rs, gv)) H1 locs1 → W p l e R s m args below meth c H1 locs1 cells slots Q (F0 m (pc + 1) ls rest)) : W p l e R s m args below meth c H locs cells slots Q (F0 m pc ls (.int (zI x_) :: .int (zI i) :: .ref (ad 5) :: rest)) := va_bast E.1 E.2.1 E.2.2.2.2.2.2.2.2 h.1 h.2.1 h.2.2 5 1 rfl rfl (zI_in hi (by decide)) hdg (fun H1 locs1 hP hD hS => by
  rw [vp_nar_byte, zI_byte hv, ar_up (f := ld) (by omega)] at hP hD
  exact kk H1 locs1 ⟨hP, hD, hS⟩)
theorem gX_wy (E : Fx p s m args meth c D [(cI, .int), (cB, .byte)] A cc nL rt RX0) (h : ZH D A s.heap (wX ad cI cB (ex, il, ol, iL, oL) (ld, lr, qr, wy, wf) (at_, pr, rs, gv)) H locs) (hdg : decode cc pc = .ok (.getfield 26, 3)) (kk : W p l e R s m args below meth c H locs cells slots Q (F0 m (pc + 3) ls (.ref (ad 6) :: rest))) : W p l e R s m args below meth c H locs cells slots Q (F0 m pc ls (.ref (ad 0) :: rest)) := va_get (D := D) (ci := 0) (v := .ref (ad 6)) (C := RX0) (T := TX0) (N := 14) E.1 E.2.1 E.2.2.2.2.2.2.1 in_X0 E.2.2.2.2.2.1 E.2.2.2.2.2.2.2.2 h.1 0 rfl rfl 8 (by decide) (E.2.2.2.2.2.2.1 _ q51) (fun _ h9 => h9) rfl hdg kk
theorem lX_wy (E : Fx p s m args meth c D [(cI, .int), (cB, .byte)] A cc nL rt RX0) (h : ZH D A s.heap (wX ad cI cB (ex, il, ol, iL, oL) (ld, lr, qr, wy, wf) (at_, pr, rs, gv)) H locs) {i : Int} (hi : 0 ≤ i ∧ i < 1372) (hdg : decode cc pc = .ok (.iaload, 1)) (kk : ∀ x : Int, x = wy i → W p l e R s m args below meth c H locs cells slots Q (F0 m (pc + 1) ls (.int (zI x) :: rest))) : W p l e R s m args below meth c H locs cells slots Q (F0 m pc ls (.int (zI i) :: .ref (ad 6) :: rest)) := va_iald E.1 E.2.1 E.2.2.2.2.2.2.2.2 h.1 6 0 rfl rfl (zI_in hi (by decide)) hdg (by rw [ar_at (f := wy) (by omega)]; exact kk _ rfl)
theorem sX_wy (E : Fx p s m args meth c D [(cI, .int), (cB, .byte)] A cc nL rt RX0) (h : ZH D A s.heap (wX ad cI cB (ex, il, ol, iL, oL) (ld, lr, qr, wy, wf) (at_, pr, rs, gv)) H locs) {i x_ : Int} (hi : 0 ≤ i ∧ i < 1372) (hdg : decode cc pc = .ok (.iastore, 1)) (kk : ∀ (H1 : Heap) (locs1 : List Loc), ZH D A s.heap (wX ad cI cB (ex, il, ol, iL, oL) (ld, lr, qr, up wy i x_, wf) (at_, pr, rs, gv)) H1 locs1 → W p l e R s m args below meth c H1 locs1 cells slots Q (F0 m (pc + 1) ls rest)) : W p l e R s m args below meth c H locs cells slots Q (F0 m pc ls (.int (zI x_) :: .int (zI i) :: .ref (ad 6) :: rest)) := va_iast E.1 E.2.1 E.2.2.2.2.2.2.2.2 h.1 h.2.1 h.2.2 6 0 rfl rfl (zI_in hi (by decide)) hdg (fun H1 locs1 hP hD hS => by
  rw [ar_up (f := wy) (by omega)] at hP hD
  exact kk H1 locs1 ⟨hP, hD, hS⟩)
theorem gX_pr (E : Fx p s m args meth c D [(cI, .int), (cB, .byte)] A cc nL rt RX0) (h : ZH D A s.heap (wX ad cI cB (ex, il, ol, iL, oL) (ld, lr, qr, wy, wf) (at_, pr, rs, gv)) H locs) (hdg : decode cc pc = .ok (.getfield 29, 3)) (kk : W p l e R s m args below meth c H locs cells slots Q (F0 m (pc + 3) ls (.ref (ad 7) :: rest))) : W p l e R s m args below meth c H locs cells slots Q (F0 m pc ls (.ref (ad 0) :: rest)) := va_get (D := D) (ci := 0) (v := .ref (ad 7)) (C := RX0) (T := TX0) (N := 14) E.1 E.2.1 E.2.2.2.2.2.2.1 in_X0 E.2.2.2.2.2.1 E.2.2.2.2.2.2.2.2 h.1 0 rfl rfl 11 (by decide) (E.2.2.2.2.2.2.1 _ q54) (fun _ h9 => h9) rfl hdg kk
theorem lX_pr (E : Fx p s m args meth c D [(cI, .int), (cB, .byte)] A cc nL rt RX0) (h : ZH D A s.heap (wX ad cI cB (ex, il, ol, iL, oL) (ld, lr, qr, wy, wf) (at_, pr, rs, gv)) H locs) {i : Int} (hi : 0 ≤ i ∧ i < 3) (hdg : decode cc pc = .ok (.iaload, 1)) (kk : ∀ x : Int, x = pr i → W p l e R s m args below meth c H locs cells slots Q (F0 m (pc + 1) ls (.int (zI x) :: rest))) : W p l e R s m args below meth c H locs cells slots Q (F0 m pc ls (.int (zI i) :: .ref (ad 7) :: rest)) := va_iald E.1 E.2.1 E.2.2.2.2.2.2.2.2 h.1 7 0 rfl rfl (zI_in hi (by decide)) hdg (by rw [ar_at (f := pr) (by omega)]; exact kk _ rfl)
theorem sX_pr (E : Fx p s m args meth c D [(cI, .int), (cB, .byte)] A cc nL rt RX0) (h : ZH D A s.heap (wX ad cI cB (ex, il, ol, iL, oL) (ld, lr, qr, wy, wf) (at_, pr, rs, gv)) H locs) {i x_ : Int} (hi : 0 ≤ i ∧ i < 3) (hdg : decode cc pc = .ok (.iastore, 1)) (kk : ∀ (H1 : Heap) (locs1 : List Loc), ZH D A s.heap (wX ad cI cB (ex, il, ol, iL, oL) (ld, lr, qr, wy, wf) (at_, up pr i x_, rs, gv)) H1 locs1 → W p l e R s m args below meth c H1 locs1 cells slots Q (F0 m (pc + 1) ls rest)) : W p l e R s m args below meth c H locs cells slots Q (F0 m pc ls (.int (zI x_) :: .int (zI i) :: .ref (ad 7) :: rest)) := va_iast E.1 E.2.1 E.2.2.2.2.2.2.2.2 h.1 h.2.1 h.2.2 7 0 rfl rfl (zI_in hi (by decide)) hdg (fun H1 locs1 hP hD hS => by
  rw [ar_up (f := pr) (by omega)] at hP hD
  exact kk H1 locs1 ⟨hP, hD, hS⟩)
theorem gX_gv (E : Fx p s m args meth c D [(cI, .int), (cB, .byte)] A cc nL rt RX0) (h : ZH D A s.heap (wX ad cI cB (ex, il, ol, iL, oL) (ld, lr, qr, wy, wf) (at_, pr, rs, gv)) H locs) (hdg : decode cc pc = .ok (.getfield 32, 3)) (kk : W p l e R s m args below meth c H locs cells slots Q (F0 m (pc + 3) ls (.ref (ad 8) :: rest))) : W p l e R s m args below meth c H locs cells slots Q (F0 m pc ls (.ref (ad 0) :: rest)) := va_get (D := D) (ci := 0) (v := .ref (ad 8)) (C := RX0) (T := TX0) (N := 14) E.1 E.2.1 E.2.2.2.2.2.2.1 in_X0 E.2.2.2.2.2.1 E.2.2.2.2.2.2.2.2 h.1 0 rfl rfl 13 (by decide) (E.2.2.2.2.2.2.1 _ q56) (fun _ h9 => h9) rfl hdg kk
theorem lX_gv (E : Fx p s m args meth c D [(cI, .int), (cB, .byte)] A cc nL rt RX0) (h : ZH D A s.heap (wX ad cI cB (ex, il, ol, iL, oL) (ld, lr, qr, wy, wf) (at_, pr, rs, gv)) H locs) {i : Int} (hi : 0 ≤ i ∧ i < 18) (hdg : decode cc pc = .ok (.iaload, 1)) (kk : ∀ x : Int, x = gv i → W p l e R s m args below meth c H locs cells slots Q (F0 m (pc + 1) ls (.int (zI x) :: rest))) : W p l e R s m args below meth c H locs cells slots Q (F0 m pc ls (.int (zI i) :: .ref (ad 8) :: rest)) := va_iald E.1 E.2.1 E.2.2.2.2.2.2.2.2 h.1 8 0 rfl rfl (zI_in hi (by decide)) hdg (by rw [ar_at (f := gv) (by omega)]; exact kk _ rfl)
theorem sX_gv (E : Fx p s m args meth c D [(cI, .int), (cB, .byte)] A cc nL rt RX0) (h : ZH D A s.heap (wX ad cI cB (ex, il, ol, iL, oL) (ld, lr, qr, wy, wf) (at_, pr, rs, gv)) H locs) {i x_ : Int} (hi : 0 ≤ i ∧ i < 18) (hdg : decode cc pc = .ok (.iastore, 1)) (kk : ∀ (H1 : Heap) (locs1 : List Loc), ZH D A s.heap (wX ad cI cB (ex, il, ol, iL, oL) (ld, lr, qr, wy, wf) (at_, pr, rs, up gv i x_)) H1 locs1 → W p l e R s m args below meth c H1 locs1 cells slots Q (F0 m (pc + 1) ls rest)) : W p l e R s m args below meth c H locs cells slots Q (F0 m pc ls (.int (zI x_) :: .int (zI i) :: .ref (ad 8) :: rest)) := va_iast E.1 E.2.1 E.2.2.2.2.2.2.2.2 h.1 h.2.1 h.2.2 8 0 rfl rfl (zI_in hi (by decide)) hdg (fun H1 locs1 hP hD hS => by
  rw [ar_up (f := gv) (by omega)] at hP hD
  exact kk H1 locs1 ⟨hP, hD, hS⟩)
end ZX
section ZM
variable {p : Program} {l : Launch} {e : Env} {R : Room} {s : State} {m : MethodId} {args : Array Value} {below : List Frame} {meth : Method} {c : Code} {H : Heap} {locs : List Loc} {cells slots : Nat} {Q : State → Prop}
variable {D : va_G} {A : Nat → Prop} {cc : ByteArray} {nL : Nat} {rt : Option FieldType} {pc : Nat} {ls : Array Slot} {rest : List Value} {ad : Nat → Nat} {cI cB : ClassId}
variable {ex fd : Int} {il ol iL oL md fs rv : FF}
theorem gM_ex (E : Fx p s m args meth c D [(cI, .int)] A cc nL rt RX1) (h : ZH D A s.heap (wM ad cI (ex, il, ol, iL, oL) (md, fs, fd, rv)) H locs) (hdg : decode cc pc = .ok (.getfield 35, 3)) (kk : W p l e R s m args below meth c H locs cells slots Q (F0 m (pc + 3) ls (.int (zI ex) :: rest))) : W p l e R s m args below meth c H locs cells slots Q (F0 m pc ls (.ref (ad 0) :: rest)) := va_get (D := D) (ci := 1) (v := .int (zI ex)) (C := RX1) (T := TX1) (N := 9) E.1 E.2.1 E.2.2.2.2.2.2.1 in_X1 E.2.2.2.2.2.1 E.2.2.2.2.2.2.2.2 h.1 0 rfl rfl 0 (by decide) (E.2.2.2.2.2.2.1 _ q228) (fun _ h9 => h9) rfl hdg kk
theorem pM_ex (E : Fx p s m args meth c D [(cI, .int)] A cc nL rt RX1) (h : ZH D A s.heap (wM ad cI (ex, il, ol, iL, oL) (md, fs, fd, rv)) H locs) {x_ : Int} (hdg : decode cc pc = .ok (.putfield 35, 3)) (kk : ∀ (H1 : Heap) (locs1 : List Loc), ZH D A s.heap (wM ad cI (x_, il, ol, iL, oL) (md, fs, fd, rv)) H1 locs1 → W p l e R s m args below meth c H1 locs1 cells slots Q (F0 m (pc + 3) ls rest)) : W p l e R s m args below meth c H locs cells slots Q (F0 m pc ls (.int (zI x_) :: .ref (ad 0) :: rest)) := va_put (D := D) (ci := 1) (v := .int (zI x_)) (ty := .int) (C := RX1) (T := TX1) (N := 9) E.1 E.2.1 E.2.2.2.2.2.2.1 in_X1 tyX1 tyX1_ok nmX1 E.2.2.2.2.2.1 E.2.2.2.2.2.2.2.2 h.1 h.2.1 h.2.2 0 rfl rfl 0 (by decide) (E.2.2.2.2.2.2.1 _ q228) (fun _ h9 => h9) rfl (by decide +kernel) rfl rfl (Nat.le_of_ble_eq_true rfl) hdg (fun H1 locs1 hP hD hS => kk H1 locs1 ⟨hP, hD, hS⟩)
theorem gM_fd (E : Fx p s m args meth c D [(cI, .int)] A cc nL rt RX1) (h : ZH D A s.heap (wM ad cI (ex, il, ol, iL, oL) (md, fs, fd, rv)) H locs) (hdg : decode cc pc = .ok (.getfield 57, 3)) (kk : W p l e R s m args below meth c H locs cells slots Q (F0 m (pc + 3) ls (.int (zI fd) :: rest))) : W p l e R s m args below meth c H locs cells slots Q (F0 m pc ls (.ref (ad 0) :: rest)) := va_get (D := D) (ci := 1) (v := .int (zI fd)) (C := RX1) (T := TX1) (N := 9) E.1 E.2.1 E.2.2.2.2.2.2.1 in_X1 E.2.2.2.2.2.1 E.2.2.2.2.2.2.2.2 h.1 0 rfl rfl 7 (by decide) (E.2.2.2.2.2.2.1 _ q235) (fun _ h9 => h9) rfl hdg kk
theorem pM_fd (E : Fx p s m args meth c D [(cI, .int)] A cc nL rt RX1) (h : ZH D A s.heap (wM ad cI (ex, il, ol, iL, oL) (md, fs, fd, rv)) H locs) {x_ : Int} (hv : x_ = 0 ∨ x_ = 1) (hdg : decode cc pc = .ok (.putfield 57, 3)) (kk : ∀ (H1 : Heap) (locs1 : List Loc), ZH D A s.heap (wM ad cI (ex, il, ol, iL, oL) (md, fs, x_, rv)) H1 locs1 → W p l e R s m args below meth c H1 locs1 cells slots Q (F0 m (pc + 3) ls rest)) : W p l e R s m args below meth c H locs cells slots Q (F0 m pc ls (.int (zI x_) :: .ref (ad 0) :: rest)) := va_put (D := D) (ci := 1) (v := .int (zI x_)) (ty := .boolean) (C := RX1) (T := TX1) (N := 9) E.1 E.2.1 E.2.2.2.2.2.2.1 in_X1 tyX1 tyX1_ok nmX1 E.2.2.2.2.2.1 E.2.2.2.2.2.2.2.2 h.1 h.2.1 h.2.2 0 rfl rfl 7 (by decide) (E.2.2.2.2.2.2.1 _ q235) (fun _ h9 => h9) rfl (by decide +kernel) (zI_bool hv).1 (zI_bool hv).2 (Nat.le_of_ble_eq_true rfl) hdg (fun H1 locs1 hP hD hS => kk H1 locs1 ⟨hP, hD, hS⟩)
theorem gM_iL (E : Fx p s m args meth c D [(cI, .int)] A cc nL rt RX1) (h : ZH D A s.heap (wM ad cI (ex, il, ol, iL, oL) (md, fs, fd, rv)) H locs) (hdg : decode cc pc = .ok (.getfield 7, 3)) (kk : W p l e R s m args below meth c H locs cells slots Q (F0 m (pc + 3) ls (.ref (ad 1) :: rest))) : W p l e R s m args below meth c H locs cells slots Q (F0 m pc ls (.ref (ad 0) :: rest)) := va_get (D := D) (ci := 1) (v := .ref (ad 1)) (C := RX1) (T := TX1) (N := 9) E.1 E.2.1 E.2.2.2.2.2.2.1 in_X1 E.2.2.2.2.2.1 E.2.2.2.2.2.2.2.2 h.1 0 rfl rfl 1 (by decide) (E.2.2.2.2.2.2.1 _ q229) (fun _ h9 => h9) rfl hdg kk
theorem lM_iL (E : Fx p s m args meth c D [(cI, .int)] A cc nL rt RX1) (h : ZH D A s.heap (wM ad cI (ex, il, ol, iL, oL) (md, fs, fd, rv)) H locs) {i : Int} (hi : 0 ≤ i ∧ i < 18) (hdg : decode cc pc = .ok (.iaload, 1)) (kk : ∀ x : Int, x = iL i → W p l e R s m args below meth c H locs cells slots Q (F0 m (pc + 1) ls (.int (zI x) :: rest))) : W p l e R s m args below meth c H locs cells slots Q (F0 m pc ls (.int (zI i) :: .ref (ad 1) :: rest)) := va_iald E.1 E.2.1 E.2.2.2.2.2.2.2.2 h.1 1 0 rfl rfl (zI_in hi (by decide)) hdg (by rw [ar_at (f := iL) (by omega)]; exact kk _ rfl)
theorem sM_iL (E : Fx p s m args meth c D [(cI, .int)] A cc nL rt RX1) (h : ZH D A s.heap (wM ad cI (ex, il, ol, iL, oL) (md, fs, fd, rv)) H locs) {i x_ : Int} (hi : 0 ≤ i ∧ i < 18) (hdg : decode cc pc = .ok (.iastore, 1)) (kk : ∀ (H1 : Heap) (locs1 : List Loc), ZH D A s.heap (wM ad cI (ex, il, ol, up iL i x_, oL) (md, fs, fd, rv)) H1 locs1 → W p l e R s m args below meth c H1 locs1 cells slots Q (F0 m (pc + 1) ls rest)) : W p l e R s m args below meth c H locs cells slots Q (F0 m pc ls (.int (zI x_) :: .int (zI i) :: .ref (ad 1) :: rest)) := va_iast E.1 E.2.1 E.2.2.2.2.2.2.2.2 h.1 h.2.1 h.2.2 1 0 rfl rfl (zI_in hi (by decide)) hdg (fun H1 locs1 hP hD hS => by
  rw [ar_up (f := iL) (by omega)] at hP hD
  exact kk H1 locs1 ⟨hP, hD, hS⟩)
theorem gM_oL (E : Fx p s m args meth c D [(cI, .int)] A cc nL rt RX1) (h : ZH D A s.heap (wM ad cI (ex, il, ol, iL, oL) (md, fs, fd, rv)) H locs) (hdg : decode cc pc = .ok (.getfield 13, 3)) (kk : W p l e R s m args below meth c H locs cells slots Q (F0 m (pc + 3) ls (.ref (ad 2) :: rest))) : W p l e R s m args below meth c H locs cells slots Q (F0 m pc ls (.ref (ad 0) :: rest)) := va_get (D := D) (ci := 1) (v := .ref (ad 2)) (C := RX1) (T := TX1) (N := 9) E.1 E.2.1 E.2.2.2.2.2.2.1 in_X1 E.2.2.2.2.2.1 E.2.2.2.2.2.2.2.2 h.1 0 rfl rfl 2 (by decide) (E.2.2.2.2.2.2.1 _ q230) (fun _ h9 => h9) rfl hdg kk
theorem lM_oL (E : Fx p s m args meth c D [(cI, .int)] A cc nL rt RX1) (h : ZH D A s.heap (wM ad cI (ex, il, ol, iL, oL) (md, fs, fd, rv)) H locs) {i : Int} (hi : 0 ≤ i ∧ i < 18) (hdg : decode cc pc = .ok (.iaload, 1)) (kk : ∀ x : Int, x = oL i → W p l e R s m args below meth c H locs cells slots Q (F0 m (pc + 1) ls (.int (zI x) :: rest))) : W p l e R s m args below meth c H locs cells slots Q (F0 m pc ls (.int (zI i) :: .ref (ad 2) :: rest)) := va_iald E.1 E.2.1 E.2.2.2.2.2.2.2.2 h.1 2 0 rfl rfl (zI_in hi (by decide)) hdg (by rw [ar_at (f := oL) (by omega)]; exact kk _ rfl)
theorem sM_oL (E : Fx p s m args meth c D [(cI, .int)] A cc nL rt RX1) (h : ZH D A s.heap (wM ad cI (ex, il, ol, iL, oL) (md, fs, fd, rv)) H locs) {i x_ : Int} (hi : 0 ≤ i ∧ i < 18) (hdg : decode cc pc = .ok (.iastore, 1)) (kk : ∀ (H1 : Heap) (locs1 : List Loc), ZH D A s.heap (wM ad cI (ex, il, ol, iL, up oL i x_) (md, fs, fd, rv)) H1 locs1 → W p l e R s m args below meth c H1 locs1 cells slots Q (F0 m (pc + 1) ls rest)) : W p l e R s m args below meth c H locs cells slots Q (F0 m pc ls (.int (zI x_) :: .int (zI i) :: .ref (ad 2) :: rest)) := va_iast E.1 E.2.1 E.2.2.2.2.2.2.2.2 h.1 h.2.1 h.2.2 2 0 rfl rfl (zI_in hi (by decide)) hdg (fun H1 locs1 hP hD hS => by
  rw [ar_up (f := oL) (by omega)] at hP hD
  exact kk H1 locs1 ⟨hP, hD, hS⟩)
theorem gM_il (E : Fx p s m args meth c D [(cI, .int)] A cc nL rt RX1) (h : ZH D A s.heap (wM ad cI (ex, il, ol, iL, oL) (md, fs, fd, rv)) H locs) (hdg : decode cc pc = .ok (.getfield 16, 3)) (kk : W p l e R s m args below meth c H locs cells slots Q (F0 m (pc + 3) ls (.ref (ad 3) :: rest))) : W p l e R s m args below meth c H locs cells slots Q (F0 m pc ls (.ref (ad 0) :: rest)) := va_get (D := D) (ci := 1) (v := .ref (ad 3)) (C := RX1) (T := TX1) (N := 9) E.1 E.2.1 E.2.2.2.2.2.2.1 in_X1 E.2.2.2.2.2.1 E.2.2.2.2.2.2.2.2 h.1 0 rfl rfl 3 (by decide) (E.2.2.2.2.2.2.1 _ q231) (fun _ h9 => h9) rfl hdg kk
theorem lM_il (E : Fx p s m args meth c D [(cI, .int)] A cc nL rt RX1) (h : ZH D A s.heap (wM ad cI (ex, il, ol, iL, oL) (md, fs, fd, rv)) H locs) {i : Int} (hi : 0 ≤ i ∧ i < 3) (hdg : decode cc pc = .ok (.iaload, 1)) (kk : ∀ x : Int, x = il i → W p l e R s m args below meth c H locs cells slots Q (F0 m (pc + 1) ls (.int (zI x) :: rest))) : W p l e R s m args below meth c H locs cells slots Q (F0 m pc ls (.int (zI i) :: .ref (ad 3) :: rest)) := va_iald E.1 E.2.1 E.2.2.2.2.2.2.2.2 h.1 3 0 rfl rfl (zI_in hi (by decide)) hdg (by rw [ar_at (f := il) (by omega)]; exact kk _ rfl)
theorem sM_il (E : Fx p s m args meth c D [(cI, .int)] A cc nL rt RX1) (h : ZH D A s.heap (wM ad cI (ex, il, ol, iL, oL) (md, fs, fd, rv)) H locs) {i x_ : Int} (hi : 0 ≤ i ∧ i < 3) (hdg : decode cc pc = .ok (.iastore, 1)) (kk : ∀ (H1 : Heap) (locs1 : List Loc), ZH D A s.heap (wM ad cI (ex, up il i x_, ol, iL, oL) (md, fs, fd, rv)) H1 locs1 → W p l e R s m args below meth c H1 locs1 cells slots Q (F0 m (pc + 1) ls rest)) : W p l e R s m args below meth c H locs cells slots Q (F0 m pc ls (.int (zI x_) :: .int (zI i) :: .ref (ad 3) :: rest)) := va_iast E.1 E.2.1 E.2.2.2.2.2.2.2.2 h.1 h.2.1 h.2.2 3 0 rfl rfl (zI_in hi (by decide)) hdg (fun H1 locs1 hP hD hS => by
  rw [ar_up (f := il) (by omega)] at hP hD
  exact kk H1 locs1 ⟨hP, hD, hS⟩)
theorem gM_ol (E : Fx p s m args meth c D [(cI, .int)] A cc nL rt RX1) (h : ZH D A s.heap (wM ad cI (ex, il, ol, iL, oL) (md, fs, fd, rv)) H locs) (hdg : decode cc pc = .ok (.getfield 19, 3)) (kk : W p l e R s m args below meth c H locs cells slots Q (F0 m (pc + 3) ls (.ref (ad 4) :: rest))) : W p l e R s m args below meth c H locs cells slots Q (F0 m pc ls (.ref (ad 0) :: rest)) := va_get (D := D) (ci := 1) (v := .ref (ad 4)) (C := RX1) (T := TX1) (N := 9) E.1 E.2.1 E.2.2.2.2.2.2.1 in_X1 E.2.2.2.2.2.1 E.2.2.2.2.2.2.2.2 h.1 0 rfl rfl 4 (by decide) (E.2.2.2.2.2.2.1 _ q232) (fun _ h9 => h9) rfl hdg kk
theorem lM_ol (E : Fx p s m args meth c D [(cI, .int)] A cc nL rt RX1) (h : ZH D A s.heap (wM ad cI (ex, il, ol, iL, oL) (md, fs, fd, rv)) H locs) {i : Int} (hi : 0 ≤ i ∧ i < 3) (hdg : decode cc pc = .ok (.iaload, 1)) (kk : ∀ x : Int, x = ol i → W p l e R s m args below meth c H locs cells slots Q (F0 m (pc + 1) ls (.int (zI x) :: rest))) : W p l e R s m args below meth c H locs cells slots Q (F0 m pc ls (.int (zI i) :: .ref (ad 4) :: rest)) := va_iald E.1 E.2.1 E.2.2.2.2.2.2.2.2 h.1 4 0 rfl rfl (zI_in hi (by decide)) hdg (by rw [ar_at (f := ol) (by omega)]; exact kk _ rfl)
theorem sM_ol (E : Fx p s m args meth c D [(cI, .int)] A cc nL rt RX1) (h : ZH D A s.heap (wM ad cI (ex, il, ol, iL, oL) (md, fs, fd, rv)) H locs) {i x_ : Int} (hi : 0 ≤ i ∧ i < 3) (hdg : decode cc pc = .ok (.iastore, 1)) (kk : ∀ (H1 : Heap) (locs1 : List Loc), ZH D A s.heap (wM ad cI (ex, il, up ol i x_, iL, oL) (md, fs, fd, rv)) H1 locs1 → W p l e R s m args below meth c H1 locs1 cells slots Q (F0 m (pc + 1) ls rest)) : W p l e R s m args below meth c H locs cells slots Q (F0 m pc ls (.int (zI x_) :: .int (zI i) :: .ref (ad 4) :: rest)) := va_iast E.1 E.2.1 E.2.2.2.2.2.2.2.2 h.1 h.2.1 h.2.2 4 0 rfl rfl (zI_in hi (by decide)) hdg (fun H1 locs1 hP hD hS => by
  rw [ar_up (f := ol) (by omega)] at hP hD
  exact kk H1 locs1 ⟨hP, hD, hS⟩)
theorem gM_md (E : Fx p s m args meth c D [(cI, .int)] A cc nL rt RX1) (h : ZH D A s.heap (wM ad cI (ex, il, ol, iL, oL) (md, fs, fd, rv)) H locs) (hdg : decode cc pc = .ok (.getfield 22, 3)) (kk : W p l e R s m args below meth c H locs cells slots Q (F0 m (pc + 3) ls (.ref (ad 5) :: rest))) : W p l e R s m args below meth c H locs cells slots Q (F0 m pc ls (.ref (ad 0) :: rest)) := va_get (D := D) (ci := 1) (v := .ref (ad 5)) (C := RX1) (T := TX1) (N := 9) E.1 E.2.1 E.2.2.2.2.2.2.1 in_X1 E.2.2.2.2.2.1 E.2.2.2.2.2.2.2.2 h.1 0 rfl rfl 5 (by decide) (E.2.2.2.2.2.2.1 _ q233) (fun _ h9 => h9) rfl hdg kk
theorem lM_md (E : Fx p s m args meth c D [(cI, .int)] A cc nL rt RX1) (h : ZH D A s.heap (wM ad cI (ex, il, ol, iL, oL) (md, fs, fd, rv)) H locs) {i : Int} (hi : 0 ≤ i ∧ i < 12) (hdg : decode cc pc = .ok (.iaload, 1)) (kk : ∀ x : Int, x = md i → W p l e R s m args below meth c H locs cells slots Q (F0 m (pc + 1) ls (.int (zI x) :: rest))) : W p l e R s m args below meth c H locs cells slots Q (F0 m pc ls (.int (zI i) :: .ref (ad 5) :: rest)) := va_iald E.1 E.2.1 E.2.2.2.2.2.2.2.2 h.1 5 0 rfl rfl (zI_in hi (by decide)) hdg (by rw [ar_at (f := md) (by omega)]; exact kk _ rfl)
theorem sM_md (E : Fx p s m args meth c D [(cI, .int)] A cc nL rt RX1) (h : ZH D A s.heap (wM ad cI (ex, il, ol, iL, oL) (md, fs, fd, rv)) H locs) {i x_ : Int} (hi : 0 ≤ i ∧ i < 12) (hdg : decode cc pc = .ok (.iastore, 1)) (kk : ∀ (H1 : Heap) (locs1 : List Loc), ZH D A s.heap (wM ad cI (ex, il, ol, iL, oL) (up md i x_, fs, fd, rv)) H1 locs1 → W p l e R s m args below meth c H1 locs1 cells slots Q (F0 m (pc + 1) ls rest)) : W p l e R s m args below meth c H locs cells slots Q (F0 m pc ls (.int (zI x_) :: .int (zI i) :: .ref (ad 5) :: rest)) := va_iast E.1 E.2.1 E.2.2.2.2.2.2.2.2 h.1 h.2.1 h.2.2 5 0 rfl rfl (zI_in hi (by decide)) hdg (fun H1 locs1 hP hD hS => by
  rw [ar_up (f := md) (by omega)] at hP hD
  exact kk H1 locs1 ⟨hP, hD, hS⟩)
theorem gM_fs (E : Fx p s m args meth c D [(cI, .int)] A cc nL rt RX1) (h : ZH D A s.heap (wM ad cI (ex, il, ol, iL, oL) (md, fs, fd, rv)) H locs) (hdg : decode cc pc = .ok (.getfield 25, 3)) (kk : W p l e R s m args below meth c H locs cells slots Q (F0 m (pc + 3) ls (.ref (ad 6) :: rest))) : W p l e R s m args below meth c H locs cells slots Q (F0 m pc ls (.ref (ad 0) :: rest)) := va_get (D := D) (ci := 1) (v := .ref (ad 6)) (C := RX1) (T := TX1) (N := 9) E.1 E.2.1 E.2.2.2.2.2.2.1 in_X1 E.2.2.2.2.2.1 E.2.2.2.2.2.2.2.2 h.1 0 rfl rfl 6 (by decide) (E.2.2.2.2.2.2.1 _ q234) (fun _ h9 => h9) rfl hdg kk
theorem lM_fs (E : Fx p s m args meth c D [(cI, .int)] A cc nL rt RX1) (h : ZH D A s.heap (wM ad cI (ex, il, ol, iL, oL) (md, fs, fd, rv)) H locs) {i : Int} (hi : 0 ≤ i ∧ i < 3) (hdg : decode cc pc = .ok (.iaload, 1)) (kk : ∀ x : Int, x = fs i → W p l e R s m args below meth c H locs cells slots Q (F0 m (pc + 1) ls (.int (zI x) :: rest))) : W p l e R s m args below meth c H locs cells slots Q (F0 m pc ls (.int (zI i) :: .ref (ad 6) :: rest)) := va_iald E.1 E.2.1 E.2.2.2.2.2.2.2.2 h.1 6 0 rfl rfl (zI_in hi (by decide)) hdg (by rw [ar_at (f := fs) (by omega)]; exact kk _ rfl)
theorem sM_fs (E : Fx p s m args meth c D [(cI, .int)] A cc nL rt RX1) (h : ZH D A s.heap (wM ad cI (ex, il, ol, iL, oL) (md, fs, fd, rv)) H locs) {i x_ : Int} (hi : 0 ≤ i ∧ i < 3) (hdg : decode cc pc = .ok (.iastore, 1)) (kk : ∀ (H1 : Heap) (locs1 : List Loc), ZH D A s.heap (wM ad cI (ex, il, ol, iL, oL) (md, up fs i x_, fd, rv)) H1 locs1 → W p l e R s m args below meth c H1 locs1 cells slots Q (F0 m (pc + 1) ls rest)) : W p l e R s m args below meth c H locs cells slots Q (F0 m pc ls (.int (zI x_) :: .int (zI i) :: .ref (ad 6) :: rest)) := va_iast E.1 E.2.1 E.2.2.2.2.2.2.2.2 h.1 h.2.1 h.2.2 6 0 rfl rfl (zI_in hi (by decide)) hdg (fun H1 locs1 hP hD hS => by
  rw [ar_up (f := fs) (by omega)] at hP hD
  exact kk H1 locs1 ⟨hP, hD, hS⟩)
theorem gM_rv (E : Fx p s m args meth c D [(cI, .int)] A cc nL rt RX1) (h : ZH D A s.heap (wM ad cI (ex, il, ol, iL, oL) (md, fs, fd, rv)) H locs) (hdg : decode cc pc = .ok (.getfield 28, 3)) (kk : W p l e R s m args below meth c H locs cells slots Q (F0 m (pc + 3) ls (.ref (ad 7) :: rest))) : W p l e R s m args below meth c H locs cells slots Q (F0 m pc ls (.ref (ad 0) :: rest)) := va_get (D := D) (ci := 1) (v := .ref (ad 7)) (C := RX1) (T := TX1) (N := 9) E.1 E.2.1 E.2.2.2.2.2.2.1 in_X1 E.2.2.2.2.2.1 E.2.2.2.2.2.2.2.2 h.1 0 rfl rfl 8 (by decide) (E.2.2.2.2.2.2.1 _ q236) (fun _ h9 => h9) rfl hdg kk
theorem lM_rv (E : Fx p s m args meth c D [(cI, .int)] A cc nL rt RX1) (h : ZH D A s.heap (wM ad cI (ex, il, ol, iL, oL) (md, fs, fd, rv)) H locs) {i : Int} (hi : 0 ≤ i ∧ i < 18) (hdg : decode cc pc = .ok (.iaload, 1)) (kk : ∀ x : Int, x = rv i → W p l e R s m args below meth c H locs cells slots Q (F0 m (pc + 1) ls (.int (zI x) :: rest))) : W p l e R s m args below meth c H locs cells slots Q (F0 m pc ls (.int (zI i) :: .ref (ad 7) :: rest)) := va_iald E.1 E.2.1 E.2.2.2.2.2.2.2.2 h.1 7 0 rfl rfl (zI_in hi (by decide)) hdg (by rw [ar_at (f := rv) (by omega)]; exact kk _ rfl)
theorem sM_rv (E : Fx p s m args meth c D [(cI, .int)] A cc nL rt RX1) (h : ZH D A s.heap (wM ad cI (ex, il, ol, iL, oL) (md, fs, fd, rv)) H locs) {i x_ : Int} (hi : 0 ≤ i ∧ i < 18) (hdg : decode cc pc = .ok (.iastore, 1)) (kk : ∀ (H1 : Heap) (locs1 : List Loc), ZH D A s.heap (wM ad cI (ex, il, ol, iL, oL) (md, fs, fd, up rv i x_)) H1 locs1 → W p l e R s m args below meth c H1 locs1 cells slots Q (F0 m (pc + 1) ls rest)) : W p l e R s m args below meth c H locs cells slots Q (F0 m pc ls (.int (zI x_) :: .int (zI i) :: .ref (ad 7) :: rest)) := va_iast E.1 E.2.1 E.2.2.2.2.2.2.2.2 h.1 h.2.1 h.2.2 7 0 rfl rfl (zI_in hi (by decide)) hdg (fun H1 locs1 hP hD hS => by
  rw [ar_up (f := rv) (by omega)] at hP hD
  exact kk H1 locs1 ⟨hP, hD, hS⟩)
end ZM
end
section
/-- an int (or boolean) method's contract over a world -/
def MI (l : Launch) (D : va_G) (tys : List (ClassId × FieldType)) (y : MethodName) (b : ByteArray) (nL : Nat) (rt : FieldType) (fr lo : Nat) (av : List Value) (ws : va_W) {S : Type} (post : Int → S → Prop) (w : S → va_W) : Prop :=
  ∀ sz : Nat, Met l y (ws_ y b nL (some rt)) ({ frames := fr, cells := 0, slots := 0, locals := lo }) (va_Pc av (fun U => U.heap.size = sz ∧ va_P D vwCl ws U.heap ∧ va_K D vwCl tys U ∧ va_D (fun _ => True) ws)) (va_Qi (fun (r : Int32) (u : S) => ∃ z : Int, r = zI z ∧ post z u) (fun u t => va_P D vwCl (w u) t.heap ∧ va_K D vwCl tys t ∧ va_D (va_A ws sz) (w u)) (va_A ws sz)) 0 0 (va_A ws sz)
/-- a void method's contract over a world -/
def MV (l : Launch) (D : va_G) (tys : List (ClassId × FieldType)) (y : MethodName) (b : ByteArray) (nL : Nat) (fr lo : Nat) (av : List Value) (ws : va_W) {S : Type} (post : S → Prop) (w : S → va_W) : Prop :=
  ∀ sz : Nat, Met l y (ws_ y b nL none) ({ frames := fr, cells := 0, slots := 0, locals := lo }) (va_Pc av (fun U => U.heap.size = sz ∧ va_P D vwCl ws U.heap ∧ va_K D vwCl tys U ∧ va_D (fun _ => True) ws)) (va_Qv post (fun u t => va_P D vwCl (w u) t.heap ∧ va_K D vwCl tys t ∧ va_D (va_A ws sz) (w u)) (va_A ws sz)) 0 0 (va_A ws sz)
theorem MI.of {l : Launch} {D : va_G} {tys : List (ClassId × FieldType)} {y : MethodName} {b : ByteArray} {nL : Nat} {rt : FieldType} {fr lo : Nat} {av : List Value} {ws : va_W} {S : Type} {post : Int → S → Prop} {w : S → va_W} (own : String) (hy : plainName y.cls = true) (how : y.cls = own) (hlen : (lg_sl av).length ≤ nL) (lv : List (Nat × Value)) (hlv : lv_args 0 av = lv)
    (body : ∀ (p : Program) (e : Env) (s : State) (m : MethodId) (args : Array Value) (below : List Frame) (meth : Method) (c : Code) (A : Nat → Prop) (Q : State → Prop), Fx p s m args meth c D tys A b nL (some rt) own →
      (∀ {H : Heap} {locs : List Loc} {ls : Array Slot} {pc : Nat} {z : Int} (u : S), decode b pc = .ok (.ireturn, 1) → narrow rt (.int (zI z)) = .int (zI z) → post z u → ZH D A s.heap (w u) H locs → W p l e ({ frames := fr, cells := 0, slots := 0, locals := lo } : Room) s m args below meth c H locs 0 0 Q (F0 m pc ls [.int (zI z)])) →
      ∀ ls : Array Slot, ZH D A s.heap ws s.heap [] → lv_has ls nL lv → W p l e ({ frames := fr, cells := 0, slots := 0, locals := lo } : Room) s m args below meth c s.heap [] 0 0 Q (F0 m 0 ls [])) : MI l D tys y b nL rt fr lo av ws post w := by
  intro sz
  refine Met.ofW (cc := b) (maxL := nL) (ret := some rt) hy rfl ?_
  intro p e s m args below meth c s₁ B hml hv
  obtain ⟨rfl, hsz, hP, hK, hD0⟩ := hv
  have hts := atoms_spec (ws := ws_ y b nL (some rt)) B.pre
  have hts : ∀ w ∈ lw_all, w.before _ s = true := fun w h => hts w (List.mem_cons_of_mem _ h)
  have hown : s.vm.findClass y.cls = some m.cls := findClass_of_methodNamed B.named
  rw [how] at hown
  subst hsz
  have hD := hD0.self (sz := s.heap.size)
  have hl := lv_entry av (n := nL) hlen
  rw [lg_entry_eq]
  generalize (lg_sl av ++ List.replicate (nL - (lg_sl av).length) Slot.unset).toArray = ls at hl ⊢
  rw [hlv] at hl
  have hlocks := B.notSynchronized
  refine body p e s m av.toArray below meth c (va_A ws s.heap.size) _ ⟨B.exec, B.bytes, hml, B.returns, B.notSynchronized, hown, hts, fun q h => Or.inr h, hK⟩ ?_ ls ⟨hP, hD, va_S.rf⟩ hl
  intro H locs ls pc z u hd hn hp h
  exact W.zret (v := zI z) B.exec B.bytes B.returns hn (fun t ht hW => ⟨⟨zI z, u, rfl, ⟨z, rfl, hp⟩, by rw [ht]; exact h.1, va_K.moved hW.alike hK, h.2.1⟩, h.2.2.F ht⟩) h.2.2.2.2 hd
theorem MV.of {l : Launch} {D : va_G} {tys : List (ClassId × FieldType)} {y : MethodName} {b : ByteArray} {nL : Nat} {fr lo : Nat} {av : List Value} {ws : va_W} {S : Type} {post : S → Prop} {w : S → va_W} (own : String) (hy : plainName y.cls = true) (how : y.cls = own) (hlen : (lg_sl av).length ≤ nL) (lv : List (Nat × Value)) (hlv : lv_args 0 av = lv)
    (body : ∀ (p : Program) (e : Env) (s : State) (m : MethodId) (args : Array Value) (below : List Frame) (meth : Method) (c : Code) (A : Nat → Prop) (Q : State → Prop), Fx p s m args meth c D tys A b nL none own →
      (∀ {H : Heap} {locs : List Loc} {ls : Array Slot} {pc : Nat} (u : S), decode b pc = .ok (.return_, 1) → post u → ZH D A s.heap (w u) H locs → W p l e ({ frames := fr, cells := 0, slots := 0, locals := lo } : Room) s m args below meth c H locs 0 0 Q (F0 m pc ls [])) →
      ∀ ls : Array Slot, ZH D A s.heap ws s.heap [] → lv_has ls nL lv → W p l e ({ frames := fr, cells := 0, slots := 0, locals := lo } : Room) s m args below meth c s.heap [] 0 0 Q (F0 m 0 ls [])) : MV l D tys y b nL fr lo av ws post w := by
  intro sz
  refine Met.ofW (cc := b) (maxL := nL) (ret := none) hy rfl ?_
  intro p e s m args below meth c s₁ B hml hv
  obtain ⟨rfl, hsz, hP, hK, hD0⟩ := hv
  have hts := atoms_spec (ws := ws_ y b nL none) B.pre
  have hts : ∀ w ∈ lw_all, w.before _ s = true := fun w h => hts w (List.mem_cons_of_mem _ h)
  have hown : s.vm.findClass y.cls = some m.cls := findClass_of_methodNamed B.named
  rw [how] at hown
  subst hsz
  have hD := hD0.self (sz := s.heap.size)
  have hl := lv_entry av (n := nL) hlen
  rw [lg_entry_eq]
  generalize (lg_sl av ++ List.replicate (nL - (lg_sl av).length) Slot.unset).toArray = ls at hl ⊢
  rw [hlv] at hl
  have hlocks := B.notSynchronized
  refine body p e s m av.toArray below meth c (va_A ws s.heap.size) _ ⟨B.exec, B.bytes, hml, B.returns, B.notSynchronized, hown, hts, fun q h => Or.inr h, hK⟩ ?_ ls ⟨hP, hD, va_S.rf⟩ hl
  intro H locs ls pc u hd hp h
  exact W.vret B.exec B.bytes B.returns (fun t ht hW => ⟨⟨u, rfl, hp, by rw [ht]; exact h.1, va_K.moved hW.alike hK, h.2.1⟩, h.2.2.F ht⟩) h.2.2.2.2 hd
theorem ZH.free {D : va_G} {A : Nat → Prop} {H0 : Heap} {ws : va_W} {H : Heap} {locs : List Loc} (h : ZH D A H0 ws H locs) (hA : ∀ q : Nat, H0.size ≤ q → A q) : ∀ q, va_A ws H.size q → A q := by
  intro q hq
  rcases hq with ⟨k, e, hk⟩ | hq
  · exact h.2.1.2 k (q, e) hk
  · exact hA q (Nat.le_trans h.2.2.1 hq)
/-- two worlds side by side -/
theorem ZH.two {D : va_G} {A : Nat → Prop} {H0 : Heap} {w1 w2 : va_W} {H : Heap} {locs : List Loc} (h : ZH D A H0 (w1 ++ w2) H locs) : ZH D A H0 w1 H locs ∧ ZH D A H0 w2 H locs ∧ ∀ (i j : Nat) (p q : Nat × va_E), w1[i]? = some p → w2[j]? = some q → p.1 ≠ q.1 := by
  obtain ⟨hP, hD, hS⟩ := h
  have l1 : ∀ (k : Nat) (q : Nat × va_E), w1[k]? = some q → (w1 ++ w2)[k]? = some q := by
    intro k q hk
    rw [List.getElem?_append_left (List.getElem?_eq_some_iff.mp hk).1]
    exact hk
  have l2 : ∀ (k : Nat) (q : Nat × va_E), w2[k]? = some q → (w1 ++ w2)[w1.length + k]? = some q := by
    intro k q hk
    rw [List.getElem?_append_right (by omega), Nat.add_sub_cancel_left]
    exact hk
  refine ⟨⟨fun k q hk => hP k q (l1 k q hk), ⟨fun i j p q hi hj e => hD.1 i j p q (l1 _ _ hi) (l1 _ _ hj) e, fun k q hk => hD.2 k q (l1 _ _ hk)⟩, hS⟩, ⟨fun k q hk => hP _ q (l2 k q hk), ⟨fun i j p q hi hj e => by
    have := hD.1 _ _ p q (l2 _ _ hi) (l2 _ _ hj) e
    omega, fun k q hk => hD.2 _ q (l2 _ _ hk)⟩, hS⟩, fun i j p q hi hj e => ?_⟩
  have h1 := hD.1 _ _ p q (l1 _ _ hi) (l2 _ _ hj) e
  have h2 := (List.getElem?_eq_some_iff.mp hi).1
  omega
theorem ZH.swap {D : va_G} {A : Nat → Prop} {H0 : Heap} {w1 w2 : va_W} {H : Heap} {locs : List Loc} (h : ZH D A H0 (w1 ++ w2) H locs) : ZH D A H0 (w2 ++ w1) H locs := by
  obtain ⟨h1, h2, hx⟩ := h.two
  exact ⟨h2.1.app h1.1, h2.2.1.app h1.2.1 (fun i j p q hi hj e => hx j i q p hj hi e.symm), h1.2.2⟩
/-- behind a call on the left world -/
theorem ZH.join {D : va_G} {A : Nat → Prop} {H0 : Heap} {w1 w2 w3 : va_W} {H H1 : Heap} {locs locs1 : List Loc} (h : ZH D A H0 (w1 ++ w2) H locs) (hA : ∀ q : Nat, H0.size ≤ q → A q) (hk : ∀ q : Nat, q < H.size → ¬ va_A w1 H.size q → H1[q]? = H[q]?) (hP1 : va_P D vwCl w3 H1) (hD1 : va_D (va_A w1 H.size) w3) (hS : va_S A H0 H1 locs1) : ZH D A H0 (w3 ++ w2) H1 locs1 := by
  obtain ⟨h1, h2, hx⟩ := h.two
  have ap : ∀ (k : Nat) (q : Nat × va_E), w2[k]? = some q → q.1 < H.size ∧ ¬ va_A w1 H.size q.1 := by
    intro k q hq
    have hl := (h2.1 k q hq).lt
    refine ⟨hl, fun z => ?_⟩
    rcases z with ⟨j, e, z⟩ | z
    · exact hx j k (q.1, e) q z hq rfl
    · omega
  refine ⟨hP1.app (fun k q hq => (h2.1 k q hq).kept (hk q.1 (ap k q hq).1 (ap k q hq).2)), (hD1.weaken (fun k q _ z => h1.free hA q.1 z)).app h2.2.1 (fun i j x y hi hj e => (ap j y hj).2 (by rw [← e]; exact hD1.2 i x hi)), hS⟩
section ZCalls
variable {p : Program} {l : Launch} {e : Env} {R : Room} {s : State} {m : MethodId} {args : Array Value} {below : List Frame} {meth : Method} {c : Code} {H : Heap} {locs : List Loc} {cells slots : Nat} {Q : State → Prop}
variable {D : va_G} {tys tys' : List (ClassId × FieldType)} {A : Nat → Prop} {cc : ByteArray} {nL : Nat} {rt : Option FieldType} {own : String} {pc : Nat} {ls : Array Slot} {rest st : List Value} {ws wr : va_W}
variable {y : MethodName} {b' : ByteArray} {nL' fr lo n idx a : Nat} {rt' : FieldType} {As : List Value} {S : Type} {post : Int → S → Prop} {postv : S → Prop} {w : S → va_W} {C : String} {T : u_T} {N ci : Nat} {fs : List Value}
/-- a call through an object, its world first, a rest beside it -/
theorem z_callL (E : Fx p s m args meth c D tys A cc nL rt own) (h : ZH D A s.heap (ws ++ wr) H locs) (hK : va_K D vwCl tys' s) (hM : MI l D tys' y b' nL' rt' fr lo (.ref a :: As) ws post w)
    (q1 : Cond.methodLink own idx y ∈ lw_all) (q2 : Cond.instanceMethod y ∈ lw_all) (q3 : Cond.selects C y y ∈ lw_all) (q4 : Cond.initialized C ∈ lw_all) (q5 : Cond.code y b' nL' (some rt') ∈ lw_all)
    (hd : y.cls = C ∧ y.cls ≠ "java/lang/invoke/MethodHandle" ∧ y.cls ≠ "java/lang/invoke/VarHandle" ∧ (parseMethodDescriptor y.desc).map (fun d => d.parameters.length) = some n) (hR : fr + 1 ≤ R.frames ∧ 8 + (nL' + 11) + lo ≤ R.locals) (hcs : cells ≤ R.cells ∧ slots ≤ R.slots)
    (hc : vwCl[ci]? = some (C, T, N)) (he : ws[0]? = some (a, .inr (ci, fs))) (hn : As.length = n) (hsz : ls.size = nL) (hrest : (rest.map fun v => v.category).sum ≤ 8) (hst : st = As.reverse ++ .ref a :: rest) (hdg : decode cc pc = .ok (.invokevirtual idx, 3))
    (kk : ∀ (z : Int) (u : S) (H1 : Heap) (locs1 : List Loc), post z u → ZH D A s.heap (w u ++ wr) H1 locs1 → W p l e R s m args below meth c H1 locs1 cells slots Q (F0 m (pc + 3) ls (.int (zI z) :: rest))) : W p l e R s m args below meth c H locs cells slots Q (F0 m pc ls st) := by
  obtain ⟨hx, hb, hml, hr, hlocks, hown, hts, hA, -⟩ := E
  obtain ⟨h1, h2, -⟩ := h.two
  have hF := h1.free hA
  subst hst
  refine va_calli (va_runV (As := As) (rest := rest) ⟨hx, hb, hml, hown, hts⟩ (hM H.size) (cwV n hts (lw_V q1 q2 q3 q4 q5) rfl rfl rfl hd hR) ⟨fun a U g mk q => by obtain ⟨q0, q1, qP, qK, qD⟩ := q; exact ⟨q0, q1, qP, va_K.moved (u := U) (U := U.calling g mk a) (Vm.Alike.refl U.vm) qK, qD⟩, va_recv hK h1.1 hc he, fun U hU hW => ⟨rfl, by rw [hU], by rw [hU]; exact h1.1, va_K.moved hW.alike hK, h1.2.1.weaken (fun _ _ _ _ => trivial)⟩⟩ rfl hn hsz rfl (lv_room hrest) hdg hcs) h.2.2 (fun q _ z => hF q z) hF (fun r u t H1 locs1 ht hvm hw hB hz1 hk1 hS => ?_)
  obtain ⟨z, rfl, hp⟩ := hw
  obtain ⟨hP1, -, hD1⟩ := hB
  rw [ht] at hP1
  exact kk z u H1 locs1 hp (h.join hA hk1 hP1 hD1 hS)
theorem z_callLv (E : Fx p s m args meth c D tys A cc nL rt own) (h : ZH D A s.heap (ws ++ wr) H locs) (hK : va_K D vwCl tys' s) (hM : MV l D tys' y b' nL' fr lo (.ref a :: As) ws postv w)
    (q1 : Cond.methodLink own idx y ∈ lw_all) (q2 : Cond.instanceMethod y ∈ lw_all) (q3 : Cond.selects C y y ∈ lw_all) (q4 : Cond.initialized C ∈ lw_all) (q5 : Cond.code y b' nL' none ∈ lw_all)
    (hd : y.cls = C ∧ y.cls ≠ "java/lang/invoke/MethodHandle" ∧ y.cls ≠ "java/lang/invoke/VarHandle" ∧ (parseMethodDescriptor y.desc).map (fun d => d.parameters.length) = some n) (hR : fr + 1 ≤ R.frames ∧ 8 + (nL' + 11) + lo ≤ R.locals) (hcs : cells ≤ R.cells ∧ slots ≤ R.slots)
    (hc : vwCl[ci]? = some (C, T, N)) (he : ws[0]? = some (a, .inr (ci, fs))) (hn : As.length = n) (hsz : ls.size = nL) (hrest : (rest.map fun v => v.category).sum ≤ 8) (hst : st = As.reverse ++ .ref a :: rest) (hdg : decode cc pc = .ok (.invokevirtual idx, 3))
    (kk : ∀ (u : S) (H1 : Heap) (locs1 : List Loc), postv u → ZH D A s.heap (w u ++ wr) H1 locs1 → W p l e R s m args below meth c H1 locs1 cells slots Q (F0 m (pc + 3) ls rest)) : W p l e R s m args below meth c H locs cells slots Q (F0 m pc ls st) := by
  obtain ⟨hx, hb, hml, hr, hlocks, hown, hts, hA, -⟩ := E
  obtain ⟨h1, h2, -⟩ := h.two
  have hF := h1.free hA
  subst hst
  refine va_callv (va_runV (As := As) (rest := rest) ⟨hx, hb, hml, hown, hts⟩ (hM H.size) (cwV n hts (lw_V q1 q2 q3 q4 q5) rfl rfl rfl hd hR) ⟨fun a U g mk q => by obtain ⟨q0, q1, qP, qK, qD⟩ := q; exact ⟨q0, q1, qP, va_K.moved (u := U) (U := U.calling g mk a) (Vm.Alike.refl U.vm) qK, qD⟩, va_recv hK h1.1 hc he, fun U hU hW => ⟨rfl, by rw [hU], by rw [hU]; exact h1.1, va_K.moved hW.alike hK, h1.2.1.weaken (fun _ _ _ _ => trivial)⟩⟩ rfl hn hsz rfl (lv_room hrest) hdg hcs) h.2.2 (fun q _ z => hF q z) hF (fun u t H1 locs1 ht hvm hw hB hz1 hk1 hS => ?_)
  obtain ⟨hP1, -, hD1⟩ := hB
  rw [ht] at hP1
  exact kk u H1 locs1 hw (h.join hA hk1 hP1 hD1 hS)
theorem ZH.nil {D : va_G} {A : Nat → Prop} {H0 : Heap} {w1 : va_W} {H : Heap} {locs : List Loc} : ZH D A H0 (w1 ++ []) H locs ↔ ZH D A H0 w1 H locs := by rw [List.append_nil]
theorem z_call (E : Fx p s m args meth c D tys A cc nL rt own) (h : ZH D A s.heap ws H locs) (hM : MI l D tys y b' nL' rt' fr lo (.ref a :: As) ws post w)
    (q1 : Cond.methodLink own idx y ∈ lw_all) (q2 : Cond.instanceMethod y ∈ lw_all) (q3 : Cond.selects C y y ∈ lw_all) (q4 : Cond.initialized C ∈ lw_all) (q5 : Cond.code y b' nL' (some rt') ∈ lw_all)
    (hd : y.cls = C ∧ y.cls ≠ "java/lang/invoke/MethodHandle" ∧ y.cls ≠ "java/lang/invoke/VarHandle" ∧ (parseMethodDescriptor y.desc).map (fun d => d.parameters.length) = some n) (hR : fr + 1 ≤ R.frames ∧ 8 + (nL' + 11) + lo ≤ R.locals) (hcs : cells ≤ R.cells ∧ slots ≤ R.slots)
    (hc : vwCl[ci]? = some (C, T, N)) (he : ws[0]? = some (a, .inr (ci, fs))) (hn : As.length = n) (hsz : ls.size = nL) (hrest : (rest.map fun v => v.category).sum ≤ 8) (hst : st = As.reverse ++ .ref a :: rest) (hdg : decode cc pc = .ok (.invokevirtual idx, 3))
    (kk : ∀ (z : Int) (u : S) (H1 : Heap) (locs1 : List Loc), post z u → ZH D A s.heap (w u) H1 locs1 → W p l e R s m args below meth c H1 locs1 cells slots Q (F0 m (pc + 3) ls (.int (zI z) :: rest))) : W p l e R s m args below meth c H locs cells slots Q (F0 m pc ls st) :=
  z_callL (wr := []) E (ZH.nil.mpr h) E.2.2.2.2.2.2.2.2 hM q1 q2 q3 q4 q5 hd hR hcs hc he hn hsz hrest hst hdg (fun z u H1 locs1 hp h1 => kk z u H1 locs1 hp (ZH.nil.mp h1))
theorem z_callv (E : Fx p s m args meth c D tys A cc nL rt own) (h : ZH D A s.heap ws H locs) (hM : MV l D tys y b' nL' fr lo (.ref a :: As) ws postv w)
    (q1 : Cond.methodLink own idx y ∈ lw_all) (q2 : Cond.instanceMethod y ∈ lw_all) (q3 : Cond.selects C y y ∈ lw_all) (q4 : Cond.initialized C ∈ lw_all) (q5 : Cond.code y b' nL' none ∈ lw_all)
    (hd : y.cls = C ∧ y.cls ≠ "java/lang/invoke/MethodHandle" ∧ y.cls ≠ "java/lang/invoke/VarHandle" ∧ (parseMethodDescriptor y.desc).map (fun d => d.parameters.length) = some n) (hR : fr + 1 ≤ R.frames ∧ 8 + (nL' + 11) + lo ≤ R.locals) (hcs : cells ≤ R.cells ∧ slots ≤ R.slots)
    (hc : vwCl[ci]? = some (C, T, N)) (he : ws[0]? = some (a, .inr (ci, fs))) (hn : As.length = n) (hsz : ls.size = nL) (hrest : (rest.map fun v => v.category).sum ≤ 8) (hst : st = As.reverse ++ .ref a :: rest) (hdg : decode cc pc = .ok (.invokevirtual idx, 3))
    (kk : ∀ (u : S) (H1 : Heap) (locs1 : List Loc), postv u → ZH D A s.heap (w u) H1 locs1 → W p l e R s m args below meth c H1 locs1 cells slots Q (F0 m (pc + 3) ls rest)) : W p l e R s m args below meth c H locs cells slots Q (F0 m pc ls st) :=
  z_callLv (wr := []) E (ZH.nil.mpr h) E.2.2.2.2.2.2.2.2 hM q1 q2 q3 q4 q5 hd hR hcs hc he hn hsz hrest hst hdg (fun u H1 locs1 hp h1 => kk u H1 locs1 hp (ZH.nil.mp h1))
/-- a static call over the same world -/
theorem z_calls (E : Fx p s m args meth c D tys A cc nL rt own) (h : ZH D A s.heap ws H locs) (hM : MI l D tys y b' nL' rt' fr lo As ws post w)
    (q1 : Cond.methodLink own idx y ∈ lw_all) (q2 : Cond.static y ∈ lw_all) (q3 : Cond.initialized y.cls ∈ lw_all) (q4 : Cond.code y b' nL' (some rt') ∈ lw_all)
    (hd : y.cls ≠ "java/lang/invoke/MethodHandle" ∧ y.cls ≠ "java/lang/invoke/VarHandle" ∧ (parseMethodDescriptor y.desc).map (fun d => d.parameters.length) = some n) (hR : fr + 1 ≤ R.frames ∧ 8 + (nL' + 11) + lo ≤ R.locals) (hcs : cells ≤ R.cells ∧ slots ≤ R.slots)
    (hn : As.length = n) (hsz : ls.size = nL) (hrest : (rest.map fun v => v.category).sum ≤ 8) (hst : st = As.reverse ++ rest) (hdg : decode cc pc = .ok (.invokestatic idx, 3))
    (kk : ∀ (z : Int) (u : S) (H1 : Heap) (locs1 : List Loc), post z u → ZH D A s.heap (w u) H1 locs1 → W p l e R s m args below meth c H1 locs1 cells slots Q (F0 m (pc + 3) ls (.int (zI z) :: rest))) : W p l e R s m args below meth c H locs cells slots Q (F0 m pc ls st) := by
  obtain ⟨hx, hb, hml, hr, hlocks, hown, hts, hA, hK⟩ := E
  have hF := h.free hA
  subst hst
  refine va_calli (va_runS (As := As) (rest := rest) ⟨hx, hb, hml, hown, hts⟩ (hM H.size) (va_cwS n hts (lw_S q1 q2 q3 q4) rfl rfl rfl hd hR) ⟨fun a U g mk q => by obtain ⟨q0, q1, qP, qK, qD⟩ := q; exact ⟨q0, q1, qP, va_K.moved (u := U) (U := U.calling g mk a) (Vm.Alike.refl U.vm) qK, qD⟩, fun U hU hW => ⟨rfl, by rw [hU], by rw [hU]; exact h.1, va_K.moved hW.alike hK, h.2.1.weaken (fun _ _ _ _ => trivial)⟩⟩ rfl hn hsz rfl (lv_room hrest) hdg hcs) h.2.2 (fun q _ z => hF q z) hF (fun r u t H1 locs1 ht hvm hw hB hz1 hk1 hS => ?_)
  obtain ⟨z, rfl, hp⟩ := hw
  obtain ⟨hP1, -, hD1⟩ := hB
  rw [ht] at hP1
  exact kk z u H1 locs1 hp ⟨hP1, hD1.weaken (fun k q _ z => hF q.1 z), hS⟩
end ZCalls
end
section
def pl (n pos : Int) : Int := if pos < 7 then (if pos ≤ n then pos else -1) else (if pos - 7 ≤ n then n - (pos - 7) else -1)
theorem pl_bd {n pos : Int} (hn : 0 ≤ n ∧ n ≤ 6) (hp : 0 ≤ pos) : -1 ≤ pl n pos ∧ pl n pos ≤ n := by
  unfold pl
  repeat' split
  all_goals omega
def szA (n a : Int) : Int := if a < 4 then 1 else if 0 ≤ pl n ((a - 4) / 14) ∧ pl n ((a - 4) / 14) < pl n ((a - 4) % 14) then pl n ((a - 4) % 14) - pl n ((a - 4) / 14) else 0
theorem szA_bd {n a : Int} (hn : 0 ≤ n ∧ n ≤ 6) (ha : 0 ≤ a) : 0 ≤ szA n a ∧ szA n a ≤ 6 := by
  unfold szA
  split
  · omega
  · have h1 := pl_bd hn (show 0 ≤ (a - 4) / 14 by omega)
    have h2 := pl_bd hn (show 0 ≤ (a - 4) % 14 by omega)
    split <;> omega
def ltA (n : Int) (L : FF) (pr a i : Int) : Int := if a < 4 then a else L (pr * 6 + pl n ((a - 4) / 14) + i)
/-- an atom that gives something: its first place is there, and its end is at most n -/
theorem szA_in {n a : Int} (hn : 0 ≤ n ∧ n ≤ 6) (ha : 4 ≤ a) (h : 0 < szA n a) : 0 ≤ pl n ((a - 4) / 14) ∧ pl n ((a - 4) / 14) + szA n a ≤ n := by
  have h2 := pl_bd hn (show 0 ≤ (a - 4) % 14 by omega)
  unfold szA at h ⊢
  rw [if_neg (by omega)] at h ⊢
  split at h
  · rename_i q
    rw [if_pos q]
    omega
  · omega
def TOk (T : TT) : Prop := (0 ≤ T.1 ∧ T.1 ≤ 2) ∧ (∀ j, 0 ≤ T.2.1 j ∧ T.2.1 j ≤ 6) ∧ (∀ j, 0 ≤ T.2.2.1 j ∧ T.2.2.1 j ≤ 6) ∧ (∀ j, 0 ≤ T.2.2.2.1 j ∧ T.2.2.2.1 j ≤ 3) ∧ (∀ j, 0 ≤ T.2.2.2.2 j ∧ T.2.2.2.2 j ≤ 3)
theorem ltA_bd {T : TT} (hT : TOk T) {n pr a i : Int} (ha : 0 ≤ a ∧ a < 200) : 0 ≤ ltA n T.2.2.2.1 pr a i ∧ ltA n T.2.2.2.1 pr a i ≤ 3 := by
  unfold ltA
  split
  · omega
  · exact hT.2.2.2.1 _
def okA (T : TT) (pr a f : Int) : Prop := 0 < szA (T.2.1 pr) a ∧ f + szA (T.2.1 pr) a ≤ T.2.2.1 pr ∧ ∀ i, 0 ≤ i → i < szA (T.2.1 pr) a → ltA (T.2.1 pr) T.2.2.2.1 pr a i = T.2.2.2.2 (pr * 6 + f + i)
noncomputable def ldA (T : TT) (pr a f : Int) : Int := @ite Int (okA T pr a f) (Classical.propDecidable _) (f + szA (T.2.1 pr) a) (-1)
theorem ldA_y {T : TT} {pr a f : Int} (h : okA T pr a f) : ldA T pr a f = f + szA (T.2.1 pr) a := if_pos h
theorem ldA_n {T : TT} {pr a f : Int} (h : ¬ okA T pr a f) : ldA T pr a f = -1 := if_neg h
theorem ldA_bd {T : TT} (hT : TOk T) {pr a f : Int} (hf : 0 ≤ f) : -1 ≤ ldA T pr a f ∧ ldA T pr a f ≤ 6 ∧ (0 ≤ ldA T pr a f → ldA T pr a f ≤ T.2.2.1 pr) := by
  have h1 := hT.2.2.1 pr
  by_cases h : okA T pr a f
  · rw [ldA_y h]
    have h2 := h.2.1
    have h3 := h.1
    omega
  · rw [ldA_n h]
    omega
noncomputable def stI (T : TT) (ty pr a f : Int) : Int := if pr < T.1 ∨ (pr = 2 ∧ ty = 2) then ldA T pr a f else f
noncomputable def stp (T : TT) (ty v a : Int) : Int := if stI T ty 0 a (v % 7) < 0 ∨ stI T ty 1 a (v / 7 % 7) < 0 ∨ stI T ty 2 a (v / 49) < 0 then -1 else stI T ty 0 a (v % 7) + 7 * stI T ty 1 a (v / 7 % 7) + 49 * stI T ty 2 a (v / 49)
theorem stI_bd {T : TT} (hT : TOk T) {ty pr a f : Int} (hf : 0 ≤ f ∧ f ≤ 6) : -1 ≤ stI T ty pr a f ∧ stI T ty pr a f ≤ 6 := by
  unfold stI
  split
  · have := ldA_bd hT (pr := pr) (a := a) hf.1
    omega
  · omega
theorem stp_bd {T : TT} (hT : TOk T) {ty v a : Int} (hv : 0 ≤ v ∧ v < 343) : -1 ≤ stp T ty v a ∧ stp T ty v a < 343 := by
  have h1 := stI_bd hT (ty := ty) (pr := 0) (a := a) (show 0 ≤ v % 7 ∧ v % 7 ≤ 6 by omega)
  have h2 := stI_bd hT (ty := ty) (pr := 1) (a := a) (show 0 ≤ v / 7 % 7 ∧ v / 7 % 7 ≤ 6 by omega)
  have h3 := stI_bd hT (ty := ty) (pr := 2) (a := a) (show 0 ≤ v / 49 ∧ v / 49 ≤ 6 by omega)
  unfold stp
  split <;> omega
def lst (T : TT) (ty : Int) : Int := (if 0 < T.1 then T.2.2.1 0 else 0) + 7 * (if 1 < T.1 then T.2.2.1 1 else 0) + 49 * (if ty = 2 then T.2.2.1 2 else 0)
theorem lst_bd {T : TT} (hT : TOk T) {ty : Int} : 0 ≤ lst T ty ∧ lst T ty < 343 := by
  have h1 := hT.2.2.1 0
  have h2 := hT.2.2.1 1
  have h3 := hT.2.2.1 2
  unfold lst
  repeat' split
  all_goals omega
def sumA (f : FF) : Nat → Int
  | 0 => 0
  | n + 1 => sumA f n + f (n : Int)
def sumZ (f : FF) (k : Int) : Int := sumA f k.toNat
theorem sumZ_0 (f : FF) : sumZ f 0 = 0 := rfl
theorem sumZ_s (f : FF) {k : Int} (h : 0 ≤ k) : sumZ f (k + 1) = sumZ f k + f k := by
  unfold sumZ
  rw [Int.toNat_add h (by omega)]
  show sumA f k.toNat + f (k.toNat : Int) = _
  rw [Int.toNat_of_nonneg h]
theorem sumZ_bd {f : FF} {B : Int} (h : ∀ a, 0 ≤ a → 0 ≤ f a ∧ f a ≤ B) (n : Nat) : 0 ≤ sumA f n ∧ sumA f n ≤ n * B := by
  induction n with
  | zero => simp [sumA]
  | succ n ih =>
    have h1 := h (n : Int) (by omega)
    simp only [sumA]
    have h2 : ((n + 1 : Nat) : Int) * B = n * B + B := by
      rw [Int.natCast_add, Int.add_mul]
      simp
    omega
noncomputable def wyN (T : TT) (ty : Int) : Nat → FF
  | 0 => fun v => if v = lst T ty then 1 else 0
  | k + 1 => fun v => if v % 7 ≤ lst T ty % 7 ∧ v / 7 % 7 ≤ lst T ty / 7 % 7 ∧ v / 49 ≤ lst T ty / 49 then sumA (fun a => if 0 ≤ stp T ty v a then wyN T ty k (stp T ty v a) else 0) 200 else 0
noncomputable def wz (T : TT) (ty k v : Int) : Int := wyN T ty k.toNat v
noncomputable def wt (T : TT) (ty k v : Int) : FF := fun a => if 0 ≤ stp T ty v a then wz T ty k (stp T ty v a) else 0
theorem wz_0 (T : TT) (ty v : Int) : wz T ty 0 v = if v = lst T ty then 1 else 0 := rfl
theorem wz_s (T : TT) (ty v : Int) {k : Int} (h : 0 ≤ k) : wz T ty (k + 1) v = if v % 7 ≤ lst T ty % 7 ∧ v / 7 % 7 ≤ lst T ty / 7 % 7 ∧ v / 49 ≤ lst T ty / 49 then sumZ (wt T ty k v) 200 else 0 := by
  unfold wz
  rw [Int.toNat_add h (by omega)]
  rfl
theorem wyN_bd (T : TT) (ty : Int) (k : Nat) (v : Int) : 0 ≤ wyN T ty k v ∧ wyN T ty k v ≤ 200 ^ k := by
  induction k generalizing v with
  | zero =>
    show 0 ≤ (if v = lst T ty then (1 : Int) else 0) ∧ (if v = lst T ty then (1 : Int) else 0) ≤ 1
    split <;> omega
  | succ k ih =>
    have hp : (0 : Int) ≤ 200 ^ k := Int.pow_nonneg (by omega)
    have h1 := sumZ_bd (f := fun a => if 0 ≤ stp T ty v a then wyN T ty k (stp T ty v a) else 0) (B := 200 ^ k) (fun a _ => by
      show 0 ≤ (if 0 ≤ stp T ty v a then wyN T ty k (stp T ty v a) else 0) ∧ _
      have := ih (stp T ty v a)
      split <;> omega) 200
    simp only [wyN]
    have h2 : (200 : Int) ^ (k + 1) = 200 * 200 ^ k := by rw [Int.pow_succ, Int.mul_comm]
    split
    · omega
    · omega
theorem wz_bd (T : TT) (ty : Int) {k : Int} (v : Int) (h : 0 ≤ k ∧ k ≤ 3) : 0 ≤ wz T ty k v ∧ wz T ty k v ≤ 8000000 := by
  have h1 := wyN_bd T ty k.toNat v
  have h2 : (200 : Int) ^ k.toNat ≤ 8000000 := by
    have : k.toNat = 0 ∨ k.toNat = 1 ∨ k.toNat = 2 ∨ k.toNat = 3 := by omega
    rcases this with e | e | e | e <;> rw [e] <;> decide
  unfold wz
  omega
def LRp (T : TT) (ld : FF) (pr : Int) : Prop := ∀ a f, 0 ≤ a → a < 200 → 0 ≤ f → f ≤ 6 → ld ((pr * 200 + a) * 7 + f) = ldA T pr a f
def LRt (T : TT) (ld : FF) (ty : Int) : Prop := ∀ pr, 0 ≤ pr → pr ≤ 2 → (pr < T.1 ∨ (pr = 2 ∧ ty = 2)) → LRp T ld pr
def WR (T : TT) (wy : FF) (ty : Int) : Prop := ∀ k v, 0 ≤ k → k ≤ 3 → 0 ≤ v → v < 343 → wy (k * 343 + v) = wz T ty k v
def CB (C : CC) : Prop := (∀ j, -1 ≤ C.1 j ∧ C.1 j ≤ 6) ∧ (C.2.1 = 0 ∨ C.2.1 = 1) ∧ (C.2.2.1 = 0 ∨ C.2.2.1 = 1) ∧ (∀ j, 0 ≤ C.2.2.2.1 j ∧ C.2.2.2.1 j ≤ 8000000) ∧ (-1 ≤ C.2.2.2.2 ∧ C.2.2.2.2 ≤ 2)
def CInv (T : TT) (C : CC) : Prop := CB C ∧ (C.2.1 = 1 → ∀ pr, 0 ≤ pr → pr < T.1 → LRp T C.1 pr) ∧ (C.2.2.1 = 1 → LRp T C.1 2) ∧ (C.2.2.2.2 = 0 → WR T C.2.2.2.1 0) ∧ (C.2.2.2.2 = 2 → WR T C.2.2.2.1 2)
def OB (O : OO) : Prop := (0 ≤ O.1 ∧ O.1 ≤ 3) ∧ (∀ j, 0 ≤ O.2.1 j ∧ O.2.1 j ≤ 199) ∧ (0 ≤ O.2.2.1 ∧ O.2.2.1 ≤ 18)
end
section
noncomputable def fA (T : TT) (ld : FF) (pr a k : Int) : FF := fun j => if (pr * 200 + a) * 7 ≤ j ∧ j < (pr * 200 + a) * 7 + k then ldA T pr a (j - (pr * 200 + a) * 7) else ld j
theorem fA_0 (T : TT) (ld : FF) (pr a : Int) : fA T ld pr a 0 = ld := by
  funext j
  unfold fA
  rw [if_neg (by omega)]
theorem fA_s {T : TT} {ld : FF} {pr a f v : Int} (hf : 0 ≤ f) (hv : v = ldA T pr a f) : up (fA T ld pr a f) ((pr * 200 + a) * 7 + f) v = fA T ld pr a (f + 1) := by
  funext j
  unfold up fA
  by_cases e : j = (pr * 200 + a) * 7 + f
  · rw [if_pos e, if_pos (by omega), hv, e]
    congr 1
    omega
  · rw [if_neg e]
    by_cases q : (pr * 200 + a) * 7 ≤ j ∧ j < (pr * 200 + a) * 7 + f
    · rw [if_pos q, if_pos (by omega)]
    · rw [if_neg q, if_neg (by omega)]
noncomputable def gA (T : TT) (ld : FF) (pr k : Int) : FF := fun j => if pr * 1400 ≤ j ∧ j < pr * 1400 + 7 * k then ldA T pr ((j - pr * 1400) / 7) (j % 7) else ld j
theorem gA_0 (T : TT) (ld : FF) (pr : Int) : gA T ld pr 0 = ld := by
  funext j
  unfold gA
  rw [if_neg (by omega)]
theorem gA_s {T : TT} {ld : FF} {pr a : Int} (ha : 0 ≤ a) (hp : 0 ≤ pr) : fA T (gA T ld pr a) pr a 7 = gA T ld pr (a + 1) := by
  funext j
  unfold fA gA
  by_cases e : (pr * 200 + a) * 7 ≤ j ∧ j < (pr * 200 + a) * 7 + 7
  · rw [if_pos e, if_pos (by omega)]
    congr 1
    · omega
    · omega
  · rw [if_neg e]
    by_cases q : pr * 1400 ≤ j ∧ j < pr * 1400 + 7 * a
    · rw [if_pos q, if_pos (by omega)]
    · rw [if_neg q, if_neg (by omega)]
theorem gA_LR {T : TT} {ld : FF} {pr : Int} (hp : 0 ≤ pr) : LRp T (gA T ld pr 200) pr := by
  intro a f h1 h2 h3 h4
  unfold gA
  rw [if_pos (by omega)]
  congr 1
  · omega
  · omega
theorem gA_off {T : TT} {ld : FF} {pr pr' : Int} (h : pr ≠ pr') (hl : LRp T ld pr') : LRp T (gA T ld pr 200) pr' := by
  intro a f h1 h2 h3 h4
  unfold gA
  rw [if_neg (by omega)]
  exact hl a f h1 h2 h3 h4
theorem gA_bd {T : TT} (hT : TOk T) {ld : FF} {pr : Int} (h : ∀ j, -1 ≤ ld j ∧ ld j ≤ 6) : ∀ j, -1 ≤ gA T ld pr 200 j ∧ gA T ld pr 200 j ≤ 6 := by
  intro j
  unfold gA
  split
  · have := ldA_bd hT (pr := pr) (a := (j - pr * 1400) / 7) (show 0 ≤ j % 7 by omega)
    omega
  · exact h j
end
section
set_option maxHeartbeats 4000000 in
set_option maxRecDepth 100000 in
theorem mX_firstPosition (l : Launch) (D : va_G) (ad : Nat → Nat) (cI cB : ClassId) (T : TT) (C : CC) (O : OO) (atom : Int) (h2 : 4 ≤ atom ∧ atom < 200) : MI l D [(cI, .int), (cB, .byte)] yX0_firstPosition cX0_firstPosition 1 .int 0 0 [.int (zI atom)] (wX ad cI cB T C O) (fun z (_ : Unit) => z = (atom - 4) / 14) (fun _ => wX ad cI cB T C O) := by
  refine MI.of RX0 (by decide) rfl (Nat.le_of_ble_eq_true rfl) [(0, .int (zI atom))] rfl ?_
  intro p e s m args below meth c A Q E ret ls h hl
  refine z_iload_n E dX0_firstPosition_0 hl 0 rfl ?_
  refine z_iconst E dX0_firstPosition_1 ?_
  refine z_isub E dX0_firstPosition_2 ?_
  refine z_bipush E dX0_firstPosition_3 (by decide +kernel) ?_
  refine z_idiv E dX0_firstPosition_5 (by omega) (by omega) ?_
  exact ret () dX0_firstPosition_6 rfl (rfl) h
set_option maxHeartbeats 4000000 in
set_option maxRecDepth 100000 in
theorem mX_secondPosition (l : Launch) (D : va_G) (ad : Nat → Nat) (cI cB : ClassId) (T : TT) (C : CC) (O : OO) (atom : Int) (h2 : 4 ≤ atom ∧ atom < 200) : MI l D [(cI, .int), (cB, .byte)] yX0_secondPosition cX0_secondPosition 1 .int 0 0 [.int (zI atom)] (wX ad cI cB T C O) (fun z (_ : Unit) => z = (atom - 4) % 14) (fun _ => wX ad cI cB T C O) := by
  refine MI.of RX0 (by decide) rfl (Nat.le_of_ble_eq_true rfl) [(0, .int (zI atom))] rfl ?_
  intro p e s m args below meth c A Q E ret ls h hl
  refine z_iload_n E dX0_secondPosition_0 hl 0 rfl ?_
  refine z_iconst E dX0_secondPosition_1 ?_
  refine z_isub E dX0_secondPosition_2 ?_
  refine z_bipush E dX0_secondPosition_3 (by decide +kernel) ?_
  refine z_irem E dX0_secondPosition_5 (by omega) (by omega) ?_
  exact ret () dX0_secondPosition_6 rfl (rfl) h
set_option maxHeartbeats 4000000 in
set_option maxRecDepth 100000 in
theorem mX_placeOf (l : Launch) (D : va_G) (ad : Nat → Nat) (cI cB : ClassId) (T : TT) (C : CC) (O : OO) (pair pos : Int) (hT : TOk T) (h1 : 0 ≤ pair ∧ pair ≤ 2) (h2 : 0 ≤ pos ∧ pos ≤ 13) : MI l D [(cI, .int), (cB, .byte)] yX0_placeOf cX0_placeOf 5 .int 0 0 [.ref (ad 0), .int (zI pair), .int (zI pos)] (wX ad cI cB T C O) (fun z (_ : Unit) => z = pl (T.2.1 pair) pos) (fun _ => wX ad cI cB T C O) := by
  refine MI.of RX0 (by decide) rfl (Nat.le_of_ble_eq_true rfl) [(0, .ref (ad 0)), (1, .int (zI pair)), (2, .int (zI pos))] rfl ?_
  intro p e s m args below meth c A Q E ret ls h hl
  refine z_iload_n E dX0_placeOf_0 hl 2 rfl ?_
  refine z_bipush E dX0_placeOf_1 (by decide +kernel) ?_
  refine z_icmp_ge E 10 dX0_placeOf_3 (by decide) (by omega) (fun c1 => ?_) (fun c1 => ?_)
  · have c1 : (7 : Int) ≤ (pos : Int) := c1
    refine z_iload_n E dX0_placeOf_10 hl 2 rfl ?_
    refine z_bipush E dX0_placeOf_11 (by decide +kernel) ?_
    refine z_isub E dX0_placeOf_13 ?_
    refine z_istore_n E [(0, .ref (ad 0)), (1, .int (zI pair)), (2, .int (zI pos)), (3, .int (zI (pos - 7)))] dX0_placeOf_14 hl (by decide) [1, 2, 3, 0] rfl (fun ls hl => ?_)
    refine z_aload_n E dX0_placeOf_15 hl 0 rfl ?_
    refine gX_il E h dX0_placeOf_16 ?_
    refine z_iload_n E dX0_placeOf_19 hl 1 rfl ?_
    refine lX_il E h (by omega) dX0_placeOf_20 (fun x1 ex1 => ?_)
    have ex1 : x1 = T.2.1 pair := ex1
    have b1 := hT.2.1 pair
    refine z_istore E [(0, .ref (ad 0)), (1, .int (zI pair)), (2, .int (zI pos)), (3, .int (zI (pos - 7))), (4, .int (zI x1))] dX0_placeOf_21 hl (by decide) [1, 2, 3, 4, 0] rfl (fun ls hl => ?_)
    refine z_iload_n E dX0_placeOf_23 hl 3 rfl ?_
    refine z_iload E dX0_placeOf_24 hl 4 rfl ?_
    refine z_icmp_le E 31 dX0_placeOf_26 (by decide) (by omega) (fun c2 => ?_) (fun c2 => ?_)
    · have c2 : (pos - 7 : Int) ≤ (x1 : Int) := c2
      refine z_iload_n E dX0_placeOf_31 hl 2 rfl ?_
      refine z_bipush E dX0_placeOf_32 (by decide +kernel) ?_
      refine z_icmp_ge E 41 dX0_placeOf_34 (by decide) (by omega) (fun c3 => ?_) (fun c3 => ?_)
      · have c3 : (7 : Int) ≤ (pos : Int) := c3
        refine z_iload E dX0_placeOf_41 hl 4 rfl ?_
        refine z_iload_n E dX0_placeOf_43 hl 3 rfl ?_
        refine z_isub E dX0_placeOf_44 ?_
        exact ret () dX0_placeOf_45 rfl (by unfold pl; (repeat' split) <;> omega) h
      · have c3 : (pos : Int) < (7 : Int) := c3
        refine z_iload_n E dX0_placeOf_37 hl 3 rfl ?_
        refine z_goto E 45 dX0_placeOf_38 (by decide) ?_
        exact ret () dX0_placeOf_45 rfl (by unfold pl; (repeat' split) <;> omega) h
    · have c2 : (x1 : Int) < (pos - 7 : Int) := c2
      refine z_iconst E dX0_placeOf_29 ?_
      exact ret () dX0_placeOf_30 rfl (by unfold pl; (repeat' split) <;> omega) h
  · have c1 : (pos : Int) < (7 : Int) := c1
    refine z_iload_n E dX0_placeOf_6 hl 2 rfl ?_
    refine z_goto E 14 dX0_placeOf_7 (by decide) ?_
    refine z_istore_n E [(0, .ref (ad 0)), (1, .int (zI pair)), (2, .int (zI pos)), (3, .int (zI pos))] dX0_placeOf_14 hl (by decide) [1, 2, 3, 0] rfl (fun ls hl => ?_)
    refine z_aload_n E dX0_placeOf_15 hl 0 rfl ?_
    refine gX_il E h dX0_placeOf_16 ?_
    refine z_iload_n E dX0_placeOf_19 hl 1 rfl ?_
    refine lX_il E h (by omega) dX0_placeOf_20 (fun x1 ex1 => ?_)
    have ex1 : x1 = T.2.1 pair := ex1
    have b1 := hT.2.1 pair
    refine z_istore E [(0, .ref (ad 0)), (1, .int (zI pair)), (2, .int (zI pos)), (3, .int (zI pos)), (4, .int (zI x1))] dX0_placeOf_21 hl (by decide) [1, 2, 3, 4, 0] rfl (fun ls hl => ?_)
    refine z_iload_n E dX0_placeOf_23 hl 3 rfl ?_
    refine z_iload E dX0_placeOf_24 hl 4 rfl ?_
    refine z_icmp_le E 31 dX0_placeOf_26 (by decide) (by omega) (fun c2 => ?_) (fun c2 => ?_)
    · have c2 : (pos : Int) ≤ (x1 : Int) := c2
      refine z_iload_n E dX0_placeOf_31 hl 2 rfl ?_
      refine z_bipush E dX0_placeOf_32 (by decide +kernel) ?_
      refine z_icmp_ge E 41 dX0_placeOf_34 (by decide) (by omega) (fun c3 => ?_) (fun c3 => ?_)
      · have c3 : (7 : Int) ≤ (pos : Int) := c3
        refine z_iload E dX0_placeOf_41 hl 4 rfl ?_
        refine z_iload_n E dX0_placeOf_43 hl 3 rfl ?_
        refine z_isub E dX0_placeOf_44 ?_
        exact ret () dX0_placeOf_45 rfl (by unfold pl; (repeat' split) <;> omega) h
      · have c3 : (pos : Int) < (7 : Int) := c3
        refine z_iload_n E dX0_placeOf_37 hl 3 rfl ?_
        refine z_goto E 45 dX0_placeOf_38 (by decide) ?_
        exact ret () dX0_placeOf_45 rfl (by unfold pl; (repeat' split) <;> omega) h
    · have c2 : (x1 : Int) < (pos : Int) := c2
      refine z_iconst E dX0_placeOf_29 ?_
      exact ret () dX0_placeOf_30 rfl (by unfold pl; (repeat' split) <;> omega) h
set_option maxHeartbeats 4000000 in
set_option maxRecDepth 100000 in
theorem mX_sizeOf (l : Launch) (D : va_G) (ad : Nat → Nat) (cI cB : ClassId) (T : TT) (C : CC) (O : OO) (pair atom : Int) (hT : TOk T) (h1 : 0 ≤ pair ∧ pair ≤ 2) (h2 : 0 ≤ atom ∧ atom < 200) : MI l D [(cI, .int), (cB, .byte)] yX0_sizeOf cX0_sizeOf 7 .int 1 24 [.ref (ad 0), .int (zI pair), .int (zI atom)] (wX ad cI cB T C O) (fun z (_ : Unit) => z = szA (T.2.1 pair) atom) (fun _ => wX ad cI cB T C O) := by
  refine MI.of RX0 (by decide) rfl (Nat.le_of_ble_eq_true rfl) [(0, .ref (ad 0)), (1, .int (zI pair)), (2, .int (zI atom))] rfl ?_
  intro p e s m args below meth c A Q E ret ls h hl
  refine z_iload_n E dX0_sizeOf_0 hl 2 rfl ?_
  refine z_iconst E dX0_sizeOf_1 ?_
  refine z_icmp_ge E 7 dX0_sizeOf_2 (by decide) (by omega) (fun c1 => ?_) (fun c1 => ?_)
  · have c1 : (4 : Int) ≤ (atom : Int) := c1
    refine z_iload_n E dX0_sizeOf_7 hl 2 rfl ?_
    refine z_calls (n := 1) (rest := []) E h (mX_firstPosition l D ad cI cB T C O atom (by omega)) q140 q141 q33 q142 (by decide +kernel) ⟨Nat.le_of_ble_eq_true rfl, Nat.le_of_ble_eq_true rfl⟩ ⟨Nat.le_refl _, Nat.le_refl _⟩ rfl hl.1 (Nat.le_of_ble_eq_true rfl) rfl dX0_sizeOf_8 (fun r1 ur1 H locs er1 h => ?_)
    have h : ZH D A s.heap (wX ad cI cB T C O) H locs := h
    refine z_istore_n E [(0, .ref (ad 0)), (1, .int (zI pair)), (2, .int (zI atom)), (3, .int (zI r1))] dX0_sizeOf_11 hl (by decide) [1, 2, 3, 0] rfl (fun ls hl => ?_)
    refine z_aload_n E dX0_sizeOf_12 hl 0 rfl ?_
    refine z_iload_n E dX0_sizeOf_13 hl 1 rfl ?_
    refine z_iload_n E dX0_sizeOf_14 hl 3 rfl ?_
    refine z_call (n := 2) (rest := []) E h (mX_placeOf l D ad cI cB T C O pair r1 hT (by omega) (by omega)) q143 q145 qs7 q33 q146 (by decide +kernel) ⟨Nat.le_of_ble_eq_true rfl, Nat.le_of_ble_eq_true rfl⟩ ⟨Nat.le_refl _, Nat.le_refl _⟩ rfl rfl rfl hl.1 (Nat.le_of_ble_eq_true rfl) rfl dX0_sizeOf_15 (fun r2 ur2 H locs er2 h => ?_)
    have br2 := pl_bd (hT.2.1 pair) (show 0 ≤ r1 by omega)
    have bbr2 := hT.2.1 pair
    have h : ZH D A s.heap (wX ad cI cB T C O) H locs := h
    refine z_istore E [(0, .ref (ad 0)), (1, .int (zI pair)), (2, .int (zI atom)), (3, .int (zI r1)), (4, .int (zI r2))] dX0_sizeOf_18 hl (by decide) [1, 2, 3, 4, 0] rfl (fun ls hl => ?_)
    refine z_iload_n E dX0_sizeOf_20 hl 2 rfl ?_
    refine z_calls (n := 1) (rest := []) E h (mX_secondPosition l D ad cI cB T C O atom (by omega)) q147 q148 q33 q149 (by decide +kernel) ⟨Nat.le_of_ble_eq_true rfl, Nat.le_of_ble_eq_true rfl⟩ ⟨Nat.le_refl _, Nat.le_refl _⟩ rfl hl.1 (Nat.le_of_ble_eq_true rfl) rfl dX0_sizeOf_21 (fun r3 ur3 H locs er3 h => ?_)
    have h : ZH D A s.heap (wX ad cI cB T C O) H locs := h
    refine z_istore E [(0, .ref (ad 0)), (1, .int (zI pair)), (2, .int (zI atom)), (3, .int (zI r1)), (4, .int (zI r2)), (5, .int (zI r3))] dX0_sizeOf_24 hl (by decide) [1, 2, 3, 4, 5, 0] rfl (fun ls hl => ?_)
    refine z_aload_n E dX0_sizeOf_26 hl 0 rfl ?_
    refine z_iload_n E dX0_sizeOf_27 hl 1 rfl ?_
    refine z_iload E dX0_sizeOf_28 hl 5 rfl ?_
    refine z_call (n := 2) (rest := []) E h (mX_placeOf l D ad cI cB T C O pair r3 hT (by omega) (by omega)) q143 q145 qs7 q33 q146 (by decide +kernel) ⟨Nat.le_of_ble_eq_true rfl, Nat.le_of_ble_eq_true rfl⟩ ⟨Nat.le_refl _, Nat.le_refl _⟩ rfl rfl rfl hl.1 (Nat.le_of_ble_eq_true rfl) rfl dX0_sizeOf_30 (fun r4 ur4 H locs er4 h => ?_)
    have br4 := pl_bd (hT.2.1 pair) (show 0 ≤ r3 by omega)
    have bbr4 := hT.2.1 pair
    have h : ZH D A s.heap (wX ad cI cB T C O) H locs := h
    refine z_istore E [(0, .ref (ad 0)), (1, .int (zI pair)), (2, .int (zI atom)), (3, .int (zI r1)), (4, .int (zI r2)), (5, .int (zI r3)), (6, .int (zI r4))] dX0_sizeOf_33 hl (by decide) [1, 2, 3, 4, 5, 6, 0] rfl (fun ls hl => ?_)
    refine z_iload E dX0_sizeOf_35 hl 4 rfl ?_
    refine z_if_lt E 55 dX0_sizeOf_37 (by decide) (by omega) (fun c2 => ?_) (fun c2 => ?_)
    · have c2 : (r2 : Int) < (0 : Int) := c2
      refine z_iconst E dX0_sizeOf_55 ?_
      exact ret () dX0_sizeOf_56 rfl (by subst er1; subst er3; unfold szA; (repeat' split) <;> omega) h
    · have c2 : (0 : Int) ≤ (r2 : Int) := c2
      refine z_iload E dX0_sizeOf_40 hl 6 rfl ?_
      refine z_iload E dX0_sizeOf_42 hl 4 rfl ?_
      refine z_icmp_le E 55 dX0_sizeOf_44 (by decide) (by omega) (fun c3 => ?_) (fun c3 => ?_)
      · have c3 : (r4 : Int) ≤ (r2 : Int) := c3
        refine z_iconst E dX0_sizeOf_55 ?_
        exact ret () dX0_sizeOf_56 rfl (by subst er1; subst er3; unfold szA; (repeat' split) <;> omega) h
      · have c3 : (r2 : Int) < (r4 : Int) := c3
        refine z_iload E dX0_sizeOf_47 hl 6 rfl ?_
        refine z_iload E dX0_sizeOf_49 hl 4 rfl ?_
        refine z_isub E dX0_sizeOf_51 ?_
        refine z_goto E 56 dX0_sizeOf_52 (by decide) ?_
        exact ret () dX0_sizeOf_56 rfl (by subst er1; subst er3; unfold szA; (repeat' split) <;> omega) h
  · have c1 : (atom : Int) < (4 : Int) := c1
    refine z_iconst E dX0_sizeOf_5 ?_
    exact ret () dX0_sizeOf_6 rfl (by unfold szA; rw [if_pos (by omega)]) h
set_option maxHeartbeats 4000000 in
set_option maxRecDepth 100000 in
theorem mX_letterOf (l : Launch) (D : va_G) (ad : Nat → Nat) (cI cB : ClassId) (T : TT) (C : CC) (O : OO) (pair atom i : Int) (hT : TOk T) (h1 : 0 ≤ pair ∧ pair ≤ 2) (h2 : 0 ≤ atom ∧ atom < 200) (h3 : 0 ≤ i ∧ i < szA (T.2.1 pair) atom) : MI l D [(cI, .int), (cB, .byte)] yX0_letterOf cX0_letterOf 6 .int 1 24 [.ref (ad 0), .int (zI pair), .int (zI atom), .int (zI i)] (wX ad cI cB T C O) (fun z (_ : Unit) => z = ltA (T.2.1 pair) T.2.2.2.1 pair atom i) (fun _ => wX ad cI cB T C O) := by
  refine MI.of RX0 (by decide) rfl (Nat.le_of_ble_eq_true rfl) [(0, .ref (ad 0)), (1, .int (zI pair)), (2, .int (zI atom)), (3, .int (zI i))] rfl ?_
  intro p e s m args below meth c A Q E ret ls h hl
  refine z_iload_n E dX0_letterOf_0 hl 2 rfl ?_
  refine z_iconst E dX0_letterOf_1 ?_
  refine z_icmp_ge E 7 dX0_letterOf_2 (by decide) (by omega) (fun c1 => ?_) (fun c1 => ?_)
  · have c1 : (4 : Int) ≤ (atom : Int) := c1
    refine z_iload_n E dX0_letterOf_7 hl 2 rfl ?_
    refine z_calls (n := 1) (rest := []) E h (mX_firstPosition l D ad cI cB T C O atom (by omega)) q140 q141 q33 q142 (by decide +kernel) ⟨Nat.le_of_ble_eq_true rfl, Nat.le_of_ble_eq_true rfl⟩ ⟨Nat.le_refl _, Nat.le_refl _⟩ rfl hl.1 (Nat.le_of_ble_eq_true rfl) rfl dX0_letterOf_8 (fun r1 ur1 H locs er1 h => ?_)
    have h : ZH D A s.heap (wX ad cI cB T C O) H locs := h
    refine z_istore E [(0, .ref (ad 0)), (1, .int (zI pair)), (2, .int (zI atom)), (3, .int (zI i)), (4, .int (zI r1))] dX0_letterOf_11 hl (by decide) [1, 2, 3, 4, 0] rfl (fun ls hl => ?_)
    refine z_aload_n E dX0_letterOf_13 hl 0 rfl ?_
    refine z_iload_n E dX0_letterOf_14 hl 1 rfl ?_
    refine z_iload E dX0_letterOf_15 hl 4 rfl ?_
    refine z_call (n := 2) (rest := []) E h (mX_placeOf l D ad cI cB T C O pair r1 hT (by omega) (by omega)) q143 q145 qs7 q33 q146 (by decide +kernel) ⟨Nat.le_of_ble_eq_true rfl, Nat.le_of_ble_eq_true rfl⟩ ⟨Nat.le_refl _, Nat.le_refl _⟩ rfl rfl rfl hl.1 (Nat.le_of_ble_eq_true rfl) rfl dX0_letterOf_17 (fun r2 ur2 H locs er2 h => ?_)
    have br2 := pl_bd (hT.2.1 pair) (show 0 ≤ r1 by omega)
    have bbr2 := hT.2.1 pair
    have h : ZH D A s.heap (wX ad cI cB T C O) H locs := h
    refine z_istore E [(0, .ref (ad 0)), (1, .int (zI pair)), (2, .int (zI atom)), (3, .int (zI i)), (4, .int (zI r1)), (5, .int (zI r2))] dX0_letterOf_20 hl (by decide) [1, 2, 3, 4, 5, 0] rfl (fun ls hl => ?_)
    have bs := szA_in (hT.2.1 pair) (show 4 ≤ atom by omega) (by omega)
    have bn := hT.2.1 pair
    subst er1
    refine z_aload_n E dX0_letterOf_22 hl 0 rfl ?_
    refine gX_iL E h dX0_letterOf_23 ?_
    refine z_iload_n E dX0_letterOf_26 hl 1 rfl ?_
    refine z_bipush E dX0_letterOf_27 (by decide +kernel) ?_
    refine z_imul E dX0_letterOf_29 ?_
    refine z_iload E dX0_letterOf_30 hl 5 rfl ?_
    refine z_iadd E dX0_letterOf_32 ?_
    refine z_iload_n E dX0_letterOf_33 hl 3 rfl ?_
    refine z_iadd E dX0_letterOf_34 ?_
    refine lX_iL E h (by omega) dX0_letterOf_35 (fun x1 ex1 => ?_)
    have ex1 : x1 = T.2.2.2.1 (((pair * 6) + r2) + i) := ex1
    have b1 := hT.2.2.2.1 (((pair * 6) + r2) + i)
    exact ret () dX0_letterOf_36 rfl (by unfold ltA; rw [if_neg (by omega), ex1, er2]) h
  · have c1 : (atom : Int) < (4 : Int) := c1
    refine z_iload_n E dX0_letterOf_5 hl 2 rfl ?_
    exact ret () dX0_letterOf_6 rfl (by unfold ltA; rw [if_pos (by omega)]) h
set_option maxHeartbeats 4000000 in
set_option maxRecDepth 100000 in
theorem mX_gives (l : Launch) (D : va_G) (ad : Nat → Nat) (cI cB : ClassId) (T : TT) (C : CC) (O : OO) (pair atom fm size : Int) (hT : TOk T) (h1 : 0 ≤ pair ∧ pair ≤ 2) (h2 : 0 ≤ atom ∧ atom < 200) (h3 : size = szA (T.2.1 pair) atom) (h4 : 0 ≤ fm ∧ fm + size ≤ T.2.2.1 pair) : MI l D [(cI, .int), (cB, .byte)] yX0_gives cX0_gives 7 .boolean 2 49 [.ref (ad 0), .int (zI pair), .int (zI atom), .int (zI fm), .int (zI size)] (wX ad cI cB T C O) (fun z (_ : Unit) => (z = 0 ∨ z = 1) ∧ (z = 1 ↔ ∀ i, 0 ≤ i → i < size → ltA (T.2.1 pair) T.2.2.2.1 pair atom i = T.2.2.2.2 (pair * 6 + fm + i))) (fun _ => wX ad cI cB T C O) := by
  refine MI.of RX0 (by decide) rfl (Nat.le_of_ble_eq_true rfl) [(0, .ref (ad 0)), (1, .int (zI pair)), (2, .int (zI atom)), (3, .int (zI fm)), (4, .int (zI size))] rfl ?_
  intro p e s m args below meth c A Q E ret ls h hl
  have bo := hT.2.2.1 pair
  have bz := szA_bd (hT.2.1 pair) (show 0 ≤ atom by omega)
  refine z_iconst E dX0_gives_0 ?_
  refine z_istore E [(0, .ref (ad 0)), (1, .int (zI pair)), (2, .int (zI atom)), (3, .int (zI fm)), (4, .int (zI size)), (5, .int (zI 0))] dX0_gives_1 hl (by decide) [1, 2, 3, 4, 5, 0] rfl (fun ls hl => ?_)
  have loop3 : ∀ (n3 : Nat) (i : Int) (H : Heap) (locs : List Loc) (ls : Array Slot), (size - i) < (n3 : Int) → (0 ≤ i ∧ i ≤ size) → (∀ k, 0 ≤ k → k < i → ltA (T.2.1 pair) T.2.2.2.1 pair atom k = T.2.2.2.2 (pair * 6 + fm + k)) → ZH D A s.heap (wX ad cI cB T C O) H locs → lv_has ls 7 [(0, .ref (ad 0)), (1, .int (zI pair)), (2, .int (zI atom)), (3, .int (zI fm)), (4, .int (zI size)), (5, .int (zI i))] → W p l e ({ frames := 2, cells := 0, slots := 0, locals := 49 } : Room) s m args below meth c H locs 0 0 Q (F0 m 3 ls []) := by
    intro n3
    induction n3 with
    | zero =>
      intro i H locs ls hm3 hi ha h hl
      exfalso; omega
    | succ n3 ih3 =>
      intro i H locs ls hm3 hi ha h hl
      refine z_iload E dX0_gives_3 hl 5 rfl ?_
      refine z_iload E dX0_gives_5 hl 4 rfl ?_
      refine z_icmp_ge E 47 dX0_gives_7 (by decide) (by omega) (fun c1 => ?_) (fun c1 => ?_)
      · have c1 : (size : Int) ≤ (i : Int) := c1
        refine z_iconst E dX0_gives_47 ?_
        exact ret () dX0_gives_48 (zI_bool (by omega)).1 (⟨by omega, ⟨fun _ k a b => ha k a (by omega), fun _ => rfl⟩⟩) h
      · have c1 : (i : Int) < (size : Int) := c1
        refine z_aload_n E dX0_gives_10 hl 0 rfl ?_
        refine z_iload_n E dX0_gives_11 hl 1 rfl ?_
        refine z_iload_n E dX0_gives_12 hl 2 rfl ?_
        refine z_iload E dX0_gives_13 hl 5 rfl ?_
        refine z_call (n := 3) (rest := []) E h (mX_letterOf l D ad cI cB T C O pair atom i hT (by omega) (by omega) (by omega)) q154 q156 qs9 q33 q157 (by decide +kernel) ⟨Nat.le_of_ble_eq_true rfl, Nat.le_of_ble_eq_true rfl⟩ ⟨Nat.le_refl _, Nat.le_refl _⟩ rfl rfl rfl hl.1 (Nat.le_of_ble_eq_true rfl) rfl dX0_gives_15 (fun r1 ur1 H locs er1 h => ?_)
        have br1 := ltA_bd hT (n := T.2.1 pair) (pr := pair) (i := i) (show 0 ≤ atom ∧ atom < 200 by omega)
        have h : ZH D A s.heap (wX ad cI cB T C O) H locs := h
        refine z_istore E [(0, .ref (ad 0)), (1, .int (zI pair)), (2, .int (zI atom)), (3, .int (zI fm)), (4, .int (zI size)), (5, .int (zI i)), (6, .int (zI r1))] dX0_gives_18 hl (by decide) [1, 2, 3, 4, 5, 6, 0] rfl (fun ls hl => ?_)
        refine z_iload E dX0_gives_20 hl 6 rfl ?_
        refine z_aload_n E dX0_gives_22 hl 0 rfl ?_
        refine gX_oL E h dX0_gives_23 ?_
        refine z_iload_n E dX0_gives_26 hl 1 rfl ?_
        refine z_bipush E dX0_gives_27 (by decide +kernel) ?_
        refine z_imul E dX0_gives_29 ?_
        refine z_iload_n E dX0_gives_30 hl 3 rfl ?_
        refine z_iadd E dX0_gives_31 ?_
        refine z_iload E dX0_gives_32 hl 5 rfl ?_
        refine z_iadd E dX0_gives_34 ?_
        refine lX_oL E h (by omega) dX0_gives_35 (fun x1 ex1 => ?_)
        have ex1 : x1 = T.2.2.2.2 (((pair * 6) + fm) + i) := ex1
        have b1 := hT.2.2.2.2 (((pair * 6) + fm) + i)
        refine z_icmp_eq E 41 dX0_gives_36 (by decide) (by omega) (fun c2 => ?_) (fun c2 => ?_)
        · have c2 : (r1 : Int) = (x1 : Int) := c2
          refine z_iinc E [(0, .ref (ad 0)), (1, .int (zI pair)), (2, .int (zI atom)), (3, .int (zI fm)), (4, .int (zI size)), (5, .int (zI (i + 1))), (6, .int (zI r1))] dX0_gives_41 hl 5 rfl (by decide) [1, 2, 3, 4, 5, 0, 6] rfl (fun ls hl => ?_)
          refine z_goto E 3 dX0_gives_44 (by decide) ?_
          exact ih3 (i + 1) _ _ _ (by omega) (by omega) (fun k a b => by
            rcases Int.lt_or_le k i with q | q
            · exact ha k a q
            · have e : k = i := by omega
              rw [e, ← er1, ← ex1]; exact c2) h (lv_sub hl [0, 1, 2, 3, 4, 5] rfl)
        · have c2 : (r1 : Int) ≠ (x1 : Int) := c2
          refine z_iconst E dX0_gives_39 ?_
          exact ret () dX0_gives_40 (zI_bool (by omega)).1 (⟨by omega, ⟨fun q => by omega, fun q => absurd (q i hi.1 (by omega)) (by rw [← er1, ← ex1]; exact c2)⟩⟩) h
  exact loop3 100 0 _ _ _ (by omega) (by omega) (fun k a b => by omega) h (lv_sub hl [0, 1, 2, 3, 4, 5] rfl)
set_option maxHeartbeats 4000000 in
set_option maxRecDepth 100000 in
theorem mX_followAtom (l : Launch) (D : va_G) (ad : Nat → Nat) (cI cB : ClassId) (T : TT) (C : CC) (O : OO) (pair atom : Int) (hT : TOk T) (h1 : 0 ≤ pair ∧ pair ≤ 2) (h2 : 0 ≤ atom ∧ atom < 200) : MV l D [(cI, .int), (cB, .byte)] yX0_followAtom cX0_followAtom 7 3 75 [.ref (ad 0), .int (zI pair), .int (zI atom)] (wX ad cI cB T C O) (fun _ : Unit => True) (fun _ => wX ad cI cB T (fA T C.1 pair atom 7, C.2.1, C.2.2.1, C.2.2.2.1, C.2.2.2.2) O) := by
  refine MV.of RX0 (by decide) rfl (Nat.le_of_ble_eq_true rfl) [(0, .ref (ad 0)), (1, .int (zI pair)), (2, .int (zI atom))] rfl ?_
  intro p e s m args below meth c A Q E ret ls h hl
  refine z_aload_n E dX0_followAtom_0 hl 0 rfl ?_
  refine z_iload_n E dX0_followAtom_1 hl 1 rfl ?_
  refine z_iload_n E dX0_followAtom_2 hl 2 rfl ?_
  refine z_call (n := 2) (rest := []) E h (mX_sizeOf l D ad cI cB T C O pair atom hT (by omega) (by omega)) q136 q138 qs6 q33 q139 (by decide +kernel) ⟨Nat.le_of_ble_eq_true rfl, Nat.le_of_ble_eq_true rfl⟩ ⟨Nat.le_refl _, Nat.le_refl _⟩ rfl rfl rfl hl.1 (Nat.le_of_ble_eq_true rfl) rfl dX0_followAtom_3 (fun r1 ur1 H locs er1 h => ?_)
  have br1 := szA_bd (hT.2.1 pair) (show 0 ≤ atom by omega)
  have h : ZH D A s.heap (wX ad cI cB T C O) H locs := h
  refine z_istore_n E [(0, .ref (ad 0)), (1, .int (zI pair)), (2, .int (zI atom)), (3, .int (zI r1))] dX0_followAtom_6 hl (by decide) [1, 2, 3, 0] rfl (fun ls hl => ?_)
  refine z_iconst E dX0_followAtom_7 ?_
  refine z_istore E [(0, .ref (ad 0)), (1, .int (zI pair)), (2, .int (zI atom)), (3, .int (zI r1)), (4, .int (zI 0))] dX0_followAtom_8 hl (by decide) [1, 2, 3, 4, 0] rfl (fun ls hl => ?_)
  rw [show C = (fA T C.1 pair atom 0, C.2.1, C.2.2.1, C.2.2.2.1, C.2.2.2.2) by rw [fA_0]] at h
  have loop10 : ∀ (n10 : Nat) (f : Int) (H : Heap) (locs : List Loc) (ls : Array Slot), (7 - f) < (n10 : Int) → (0 ≤ f ∧ f ≤ 7) → ZH D A s.heap (wX ad cI cB T (fA T C.1 pair atom f, C.2.1, C.2.2.1, C.2.2.2.1, C.2.2.2.2) O) H locs → lv_has ls 7 [(0, .ref (ad 0)), (1, .int (zI pair)), (2, .int (zI atom)), (3, .int (zI r1)), (4, .int (zI f))] → W p l e ({ frames := 3, cells := 0, slots := 0, locals := 75 } : Room) s m args below meth c H locs 0 0 Q (F0 m 10 ls []) := by
    intro n10
    induction n10 with
    | zero =>
      intro f H locs ls hm10 hf h hl
      exfalso; omega
    | succ n10 ih10 =>
      intro f H locs ls hm10 hf h hl
      refine z_iload E dX0_followAtom_10 hl 4 rfl ?_
      refine z_bipush E dX0_followAtom_12 (by decide +kernel) ?_
      refine z_icmp_ge E 93 dX0_followAtom_14 (by decide) (by omega) (fun c1 => ?_) (fun c1 => ?_)
      · have c1 : (7 : Int) ≤ (f : Int) := c1
        obtain rfl : f = 7 := by omega
        exact ret () dX0_followAtom_93 (trivial) h
      · have c1 : (f : Int) < (7 : Int) := c1
        refine z_iload E dX0_followAtom_17 hl 4 rfl ?_
        refine z_iload_n E dX0_followAtom_19 hl 3 rfl ?_
        refine z_iadd E dX0_followAtom_20 ?_
        refine z_istore E [(0, .ref (ad 0)), (1, .int (zI pair)), (2, .int (zI atom)), (3, .int (zI r1)), (4, .int (zI f)), (5, .int (zI (f + r1)))] dX0_followAtom_21 hl (by decide) [1, 2, 3, 4, 5, 0] rfl (fun ls hl => ?_)
        refine z_iload_n E dX0_followAtom_23 hl 3 rfl ?_
        refine z_if_le E 54 dX0_followAtom_24 (by decide) (by omega) (fun c2 => ?_) (fun c2 => ?_)
        · have c2 : (r1 : Int) ≤ (0 : Int) := c2
          refine z_iconst E dX0_followAtom_54 ?_
          refine z_istore E [(0, .ref (ad 0)), (1, .int (zI pair)), (2, .int (zI atom)), (3, .int (zI r1)), (4, .int (zI f)), (5, .int (zI (f + r1))), (6, .int (zI 0))] dX0_followAtom_55 hl (by decide) [1, 2, 3, 4, 5, 6, 0] rfl (fun ls hl => ?_)
          refine z_aload_n E dX0_followAtom_57 hl 0 rfl ?_
          refine gX_ld E h dX0_followAtom_58 ?_
          refine z_iload_n E dX0_followAtom_61 hl 1 rfl ?_
          refine z_sipush E dX0_followAtom_62 (by decide +kernel) ?_
          refine z_imul E dX0_followAtom_65 ?_
          refine z_iload_n E dX0_followAtom_66 hl 2 rfl ?_
          refine z_iadd E dX0_followAtom_67 ?_
          refine z_bipush E dX0_followAtom_68 (by decide +kernel) ?_
          refine z_imul E dX0_followAtom_70 ?_
          refine z_iload E dX0_followAtom_71 hl 4 rfl ?_
          refine z_iadd E dX0_followAtom_73 ?_
          refine z_iload E dX0_followAtom_74 hl 6 rfl ?_
          refine z_if_eq E 84 dX0_followAtom_76 (by decide) (by omega) (fun c3 => ?_) (fun c3 => ?_)
          · have c3 : (0 : Int) = (0 : Int) := c3
            refine z_iconst E dX0_followAtom_84 ?_
            refine z_i2b E dX0_followAtom_85 (by omega) ?_
            refine sX_ld E h (by omega) (by omega) dX0_followAtom_86 (fun H locs h => ?_)
            have h : ZH D A s.heap (wX ad cI cB T (up (fA T C.1 pair atom f) ((((pair * 200) + atom) * 7) + f) (-1), C.2.1, C.2.2.1, C.2.2.2.1, C.2.2.2.2) O) H locs := h
            refine z_iinc E [(0, .ref (ad 0)), (1, .int (zI pair)), (2, .int (zI atom)), (3, .int (zI r1)), (4, .int (zI (f + 1))), (5, .int (zI (f + r1))), (6, .int (zI 0))] dX0_followAtom_87 hl 4 rfl (by decide) [1, 2, 3, 4, 0, 5, 6] rfl (fun ls hl => ?_)
            refine z_goto E 10 dX0_followAtom_90 (by decide) ?_
            rw [fA_s (by omega) (ldA_n (fun q => by have := q.1; omega)).symm] at h
            exact ih10 (f + 1) _ _ _ (by omega) (by omega) h (lv_sub hl [0, 1, 2, 3, 4] rfl)
          · have c3 : (0 : Int) ≠ (0 : Int) := c3
            exfalso; omega
        · have c2 : (0 : Int) < (r1 : Int) := c2
          refine z_iload E dX0_followAtom_27 hl 5 rfl ?_
          refine z_aload_n E dX0_followAtom_29 hl 0 rfl ?_
          refine gX_ol E h dX0_followAtom_30 ?_
          refine z_iload_n E dX0_followAtom_33 hl 1 rfl ?_
          refine lX_ol E h (by omega) dX0_followAtom_34 (fun x1 ex1 => ?_)
          have ex1 : x1 = T.2.2.1 pair := ex1
          have b1 := hT.2.2.1 pair
          refine z_icmp_gt E 54 dX0_followAtom_35 (by decide) (by omega) (fun c3 => ?_) (fun c3 => ?_)
          · have c3 : (x1 : Int) < (f + r1 : Int) := c3
            refine z_iconst E dX0_followAtom_54 ?_
            refine z_istore E [(0, .ref (ad 0)), (1, .int (zI pair)), (2, .int (zI atom)), (3, .int (zI r1)), (4, .int (zI f)), (5, .int (zI (f + r1))), (6, .int (zI 0))] dX0_followAtom_55 hl (by decide) [1, 2, 3, 4, 5, 6, 0] rfl (fun ls hl => ?_)
            refine z_aload_n E dX0_followAtom_57 hl 0 rfl ?_
            refine gX_ld E h dX0_followAtom_58 ?_
            refine z_iload_n E dX0_followAtom_61 hl 1 rfl ?_
            refine z_sipush E dX0_followAtom_62 (by decide +kernel) ?_
            refine z_imul E dX0_followAtom_65 ?_
            refine z_iload_n E dX0_followAtom_66 hl 2 rfl ?_
            refine z_iadd E dX0_followAtom_67 ?_
            refine z_bipush E dX0_followAtom_68 (by decide +kernel) ?_
            refine z_imul E dX0_followAtom_70 ?_
            refine z_iload E dX0_followAtom_71 hl 4 rfl ?_
            refine z_iadd E dX0_followAtom_73 ?_
            refine z_iload E dX0_followAtom_74 hl 6 rfl ?_
            refine z_if_eq E 84 dX0_followAtom_76 (by decide) (by omega) (fun c4 => ?_) (fun c4 => ?_)
            · have c4 : (0 : Int) = (0 : Int) := c4
              refine z_iconst E dX0_followAtom_84 ?_
              refine z_i2b E dX0_followAtom_85 (by omega) ?_
              refine sX_ld E h (by omega) (by omega) dX0_followAtom_86 (fun H locs h => ?_)
              have h : ZH D A s.heap (wX ad cI cB T (up (fA T C.1 pair atom f) ((((pair * 200) + atom) * 7) + f) (-1), C.2.1, C.2.2.1, C.2.2.2.1, C.2.2.2.2) O) H locs := h
              refine z_iinc E [(0, .ref (ad 0)), (1, .int (zI pair)), (2, .int (zI atom)), (3, .int (zI r1)), (4, .int (zI (f + 1))), (5, .int (zI (f + r1))), (6, .int (zI 0))] dX0_followAtom_87 hl 4 rfl (by decide) [1, 2, 3, 4, 0, 5, 6] rfl (fun ls hl => ?_)
              refine z_goto E 10 dX0_followAtom_90 (by decide) ?_
              rw [fA_s (by omega) (ldA_n (fun q => by have := q.2.1; omega)).symm] at h
              exact ih10 (f + 1) _ _ _ (by omega) (by omega) h (lv_sub hl [0, 1, 2, 3, 4] rfl)
            · have c4 : (0 : Int) ≠ (0 : Int) := c4
              exfalso; omega
          · have c3 : (f + r1 : Int) ≤ (x1 : Int) := c3
            refine z_aload_n E dX0_followAtom_38 hl 0 rfl ?_
            refine z_iload_n E dX0_followAtom_39 hl 1 rfl ?_
            refine z_iload_n E dX0_followAtom_40 hl 2 rfl ?_
            refine z_iload E dX0_followAtom_41 hl 4 rfl ?_
            refine z_iload_n E dX0_followAtom_43 hl 3 rfl ?_
            refine z_call (n := 4) (rest := []) E h (mX_gives l D ad cI cB T (fA T C.1 pair atom f, C.2.1, C.2.2.1, C.2.2.2.1, C.2.2.2.2) O pair atom f r1 hT (by omega) (by omega) (by omega) (by omega)) q150 q152 qs8 q33 q153 (by decide +kernel) ⟨Nat.le_of_ble_eq_true rfl, Nat.le_of_ble_eq_true rfl⟩ ⟨Nat.le_refl _, Nat.le_refl _⟩ rfl rfl rfl hl.1 (Nat.le_of_ble_eq_true rfl) rfl dX0_followAtom_44 (fun r2 ur2 H locs er2 h => ?_)
            have h : ZH D A s.heap (wX ad cI cB T (fA T C.1 pair atom f, C.2.1, C.2.2.1, C.2.2.2.1, C.2.2.2.2) O) H locs := h
            refine z_if_eq E 54 dX0_followAtom_47 (by decide) (by omega) (fun c4 => ?_) (fun c4 => ?_)
            · have c4 : (r2 : Int) = (0 : Int) := c4
              refine z_iconst E dX0_followAtom_54 ?_
              refine z_istore E [(0, .ref (ad 0)), (1, .int (zI pair)), (2, .int (zI atom)), (3, .int (zI r1)), (4, .int (zI f)), (5, .int (zI (f + r1))), (6, .int (zI 0))] dX0_followAtom_55 hl (by decide) [1, 2, 3, 4, 5, 6, 0] rfl (fun ls hl => ?_)
              refine z_aload_n E dX0_followAtom_57 hl 0 rfl ?_
              refine gX_ld E h dX0_followAtom_58 ?_
              refine z_iload_n E dX0_followAtom_61 hl 1 rfl ?_
              refine z_sipush E dX0_followAtom_62 (by decide +kernel) ?_
              refine z_imul E dX0_followAtom_65 ?_
              refine z_iload_n E dX0_followAtom_66 hl 2 rfl ?_
              refine z_iadd E dX0_followAtom_67 ?_
              refine z_bipush E dX0_followAtom_68 (by decide +kernel) ?_
              refine z_imul E dX0_followAtom_70 ?_
              refine z_iload E dX0_followAtom_71 hl 4 rfl ?_
              refine z_iadd E dX0_followAtom_73 ?_
              refine z_iload E dX0_followAtom_74 hl 6 rfl ?_
              refine z_if_eq E 84 dX0_followAtom_76 (by decide) (by omega) (fun c5 => ?_) (fun c5 => ?_)
              · have c5 : (0 : Int) = (0 : Int) := c5
                refine z_iconst E dX0_followAtom_84 ?_
                refine z_i2b E dX0_followAtom_85 (by omega) ?_
                refine sX_ld E h (by omega) (by omega) dX0_followAtom_86 (fun H locs h => ?_)
                have h : ZH D A s.heap (wX ad cI cB T (up (fA T C.1 pair atom f) ((((pair * 200) + atom) * 7) + f) (-1), C.2.1, C.2.2.1, C.2.2.2.1, C.2.2.2.2) O) H locs := h
                refine z_iinc E [(0, .ref (ad 0)), (1, .int (zI pair)), (2, .int (zI atom)), (3, .int (zI r1)), (4, .int (zI (f + 1))), (5, .int (zI (f + r1))), (6, .int (zI 0))] dX0_followAtom_87 hl 4 rfl (by decide) [1, 2, 3, 4, 0, 5, 6] rfl (fun ls hl => ?_)
                refine z_goto E 10 dX0_followAtom_90 (by decide) ?_
                rw [fA_s (by omega) (ldA_n (fun q => by have q3 := er2.2.mpr (by rw [er1]; exact q.2.2); omega)).symm] at h
                exact ih10 (f + 1) _ _ _ (by omega) (by omega) h (lv_sub hl [0, 1, 2, 3, 4] rfl)
              · have c5 : (0 : Int) ≠ (0 : Int) := c5
                exfalso; omega
            · have c4 : (r2 : Int) ≠ (0 : Int) := c4
              refine z_iconst E dX0_followAtom_50 ?_
              refine z_goto E 55 dX0_followAtom_51 (by decide) ?_
              refine z_istore E [(0, .ref (ad 0)), (1, .int (zI pair)), (2, .int (zI atom)), (3, .int (zI r1)), (4, .int (zI f)), (5, .int (zI (f + r1))), (6, .int (zI 1))] dX0_followAtom_55 hl (by decide) [1, 2, 3, 4, 5, 6, 0] rfl (fun ls hl => ?_)
              refine z_aload_n E dX0_followAtom_57 hl 0 rfl ?_
              refine gX_ld E h dX0_followAtom_58 ?_
              refine z_iload_n E dX0_followAtom_61 hl 1 rfl ?_
              refine z_sipush E dX0_followAtom_62 (by decide +kernel) ?_
              refine z_imul E dX0_followAtom_65 ?_
              refine z_iload_n E dX0_followAtom_66 hl 2 rfl ?_
              refine z_iadd E dX0_followAtom_67 ?_
              refine z_bipush E dX0_followAtom_68 (by decide +kernel) ?_
              refine z_imul E dX0_followAtom_70 ?_
              refine z_iload E dX0_followAtom_71 hl 4 rfl ?_
              refine z_iadd E dX0_followAtom_73 ?_
              refine z_iload E dX0_followAtom_74 hl 6 rfl ?_
              refine z_if_eq E 84 dX0_followAtom_76 (by decide) (by omega) (fun c5 => ?_) (fun c5 => ?_)
              · have c5 : (1 : Int) = (0 : Int) := c5
                exfalso; omega
              · have c5 : (1 : Int) ≠ (0 : Int) := c5
                refine z_iload E dX0_followAtom_79 hl 5 rfl ?_
                refine z_goto E 85 dX0_followAtom_81 (by decide) ?_
                refine z_i2b E dX0_followAtom_85 (by omega) ?_
                refine sX_ld E h (by omega) (by omega) dX0_followAtom_86 (fun H locs h => ?_)
                have h : ZH D A s.heap (wX ad cI cB T (up (fA T C.1 pair atom f) ((((pair * 200) + atom) * 7) + f) (f + r1), C.2.1, C.2.2.1, C.2.2.2.1, C.2.2.2.2) O) H locs := h
                refine z_iinc E [(0, .ref (ad 0)), (1, .int (zI pair)), (2, .int (zI atom)), (3, .int (zI r1)), (4, .int (zI (f + 1))), (5, .int (zI (f + r1))), (6, .int (zI 1))] dX0_followAtom_87 hl 4 rfl (by decide) [1, 2, 3, 4, 0, 5, 6] rfl (fun ls hl => ?_)
                refine z_goto E 10 dX0_followAtom_90 (by decide) ?_
                rw [fA_s (by omega) (by rw [ldA_y ⟨by omega, by omega, by rw [← er1]; exact er2.2.mp (by omega)⟩, er1])] at h
                exact ih10 (f + 1) _ _ _ (by omega) (by omega) h (lv_sub hl [0, 1, 2, 3, 4] rfl)
  exact loop10 100 0 _ _ _ (by omega) (by omega) h (lv_sub hl [0, 1, 2, 3, 4] rfl)
set_option maxHeartbeats 4000000 in
set_option maxRecDepth 100000 in
theorem mX_followAll (l : Launch) (D : va_G) (ad : Nat → Nat) (cI cB : ClassId) (T : TT) (C : CC) (O : OO) (pair : Int) (hT : TOk T) (h1 : 0 ≤ pair ∧ pair ≤ 2) : MV l D [(cI, .int), (cB, .byte)] yX0_followAll cX0_followAll 3 4 101 [.ref (ad 0), .int (zI pair)] (wX ad cI cB T C O) (fun _ : Unit => True) (fun _ => wX ad cI cB T (gA T C.1 pair 200, C.2.1, C.2.2.1, C.2.2.2.1, C.2.2.2.2) O) := by
  refine MV.of RX0 (by decide) rfl (Nat.le_of_ble_eq_true rfl) [(0, .ref (ad 0)), (1, .int (zI pair))] rfl ?_
  intro p e s m args below meth c A Q E ret ls h hl
  refine z_iconst E dX0_followAll_0 ?_
  refine z_istore_n E [(0, .ref (ad 0)), (1, .int (zI pair)), (2, .int (zI 0))] dX0_followAll_1 hl (by decide) [1, 2, 0] rfl (fun ls hl => ?_)
  rw [show C = (gA T C.1 pair 0, C.2.1, C.2.2.1, C.2.2.2.1, C.2.2.2.2) by rw [gA_0]] at h
  have loop2 : ∀ (n2 : Nat) (a : Int) (H : Heap) (locs : List Loc) (ls : Array Slot), (200 - a) < (n2 : Int) → (0 ≤ a ∧ a ≤ 200) → ZH D A s.heap (wX ad cI cB T (gA T C.1 pair a, C.2.1, C.2.2.1, C.2.2.2.1, C.2.2.2.2) O) H locs → lv_has ls 3 [(0, .ref (ad 0)), (1, .int (zI pair)), (2, .int (zI a))] → W p l e ({ frames := 4, cells := 0, slots := 0, locals := 101 } : Room) s m args below meth c H locs 0 0 Q (F0 m 2 ls []) := by
    intro n2
    induction n2 with
    | zero =>
      intro a H locs ls hm2 ha h hl
      exfalso; omega
    | succ n2 ih2 =>
      intro a H locs ls hm2 ha h hl
      refine z_iload_n E dX0_followAll_2 hl 2 rfl ?_
      refine z_sipush E dX0_followAll_3 (by decide +kernel) ?_
      refine z_icmp_ge E 21 dX0_followAll_6 (by decide) (by omega) (fun c1 => ?_) (fun c1 => ?_)
      · have c1 : (200 : Int) ≤ (a : Int) := c1
        obtain rfl : a = 200 := by omega
        exact ret () dX0_followAll_21 (trivial) h
      · have c1 : (a : Int) < (200 : Int) := c1
        refine z_aload_n E dX0_followAll_9 hl 0 rfl ?_
        refine z_iload_n E dX0_followAll_10 hl 1 rfl ?_
        refine z_iload_n E dX0_followAll_11 hl 2 rfl ?_
        refine z_callv (n := 2) (rest := []) E h (mX_followAtom l D ad cI cB T (gA T C.1 pair a, C.2.1, C.2.2.1, C.2.2.2.1, C.2.2.2.2) O pair a hT (by omega) (by omega)) q132 q134 qs5 q33 q135 (by decide +kernel) ⟨Nat.le_of_ble_eq_true rfl, Nat.le_of_ble_eq_true rfl⟩ ⟨Nat.le_refl _, Nat.le_refl _⟩ rfl rfl rfl hl.1 (Nat.le_of_ble_eq_true rfl) rfl dX0_followAll_12 (fun ur1 H locs er1 h => ?_)
        have h : ZH D A s.heap (wX ad cI cB T (fA T (gA T C.1 pair a) pair a 7, C.2.1, C.2.2.1, C.2.2.2.1, C.2.2.2.2) O) H locs := h
        refine z_iinc E [(0, .ref (ad 0)), (1, .int (zI pair)), (2, .int (zI (a + 1)))] dX0_followAll_15 hl 2 rfl (by decide) [1, 2, 0] rfl (fun ls hl => ?_)
        refine z_goto E 2 dX0_followAll_18 (by decide) ?_
        rw [gA_s (by omega) (by omega)] at h
        exact ih2 (a + 1) _ _ _ (by omega) (by omega) h (lv_sub hl [0, 1, 2] rfl)
  exact loop2 1000 0 _ _ _ (by omega) (by omega) h (lv_sub hl [0, 1, 2] rfl)
end
section
theorem up_ext {f g : FF} {n x : Int} (h : ∀ v, 0 ≤ v → v < n → f v = g v) (hx : x = g n) : ∀ v, 0 ≤ v → v < n + 1 → up f n x v = g v := by
  intro v h1 h2
  by_cases e : v = n
  · rw [e, up_s, hx]
  · rw [up_n e]
    exact h v h1 (by omega)
theorem up_bd {f : FF} {lo hi i x : Int} (h : ∀ j, lo ≤ f j ∧ f j ≤ hi) (hx : lo ≤ x ∧ x ≤ hi) : ∀ j, lo ≤ up f i x j ∧ up f i x j ≤ hi := by
  intro j
  by_cases e : j = i
  · rw [e, up_s]; exact hx
  · rw [up_n e]; exact h j
theorem wz_k (T : TT) (ty v : Int) {k : Int} (h : 1 ≤ k) : wz T ty k v = if v % 7 ≤ lst T ty % 7 ∧ v / 7 % 7 ≤ lst T ty / 7 % 7 ∧ v / 49 ≤ lst T ty / 49 then sumZ (wt T ty (k - 1) v) 200 else 0 := by
  have h1 := wz_s T ty v (show 0 ≤ k - 1 by omega)
  rw [Int.sub_add_cancel] at h1
  exact h1
theorem CInv_mk {T : TT} (hT : TOk T) {C : CC} {ld : FF} {qr ty : Int} (hI : CInv T C) (hb : ∀ j, -1 ≤ ld j ∧ ld j ≤ 6) (hL : LRt T ld ty) (hq1 : qr = 0 ∨ qr = 1) (hq2 : qr = 1 → LRp T ld 2) : CInv T (ld, 1, qr, C.2.2.2.1, C.2.2.2.2) :=
  ⟨⟨hb, Or.inr rfl, hq1, hI.1.2.2.2.1, hI.1.2.2.2.2⟩, fun _ pr h1 h2 => hL pr h1 (by have := hT.1; omega) (Or.inl h2), hq2, hI.2.2.2.1, hI.2.2.2.2⟩
theorem CInv_new {T : TT} (hT : TOk T) {ld wy : FF} {qr ty : Int} (hty : ty = 0 ∨ ty = 2) (hb : ∀ j, -1 ≤ ld j ∧ ld j ≤ 6) (hL : LRt T ld ty) (hq1 : qr = 0 ∨ qr = 1) (hq2 : qr = 1 → LRp T ld 2) (hwb : ∀ j, 0 ≤ wy j ∧ wy j ≤ 8000000) (hW : WR T wy ty) : CInv T (ld, 1, qr, wy, ty) :=
  ⟨⟨hb, Or.inr rfl, hq1, hwb, by show -1 ≤ ty ∧ ty ≤ 2; omega⟩, fun _ pr h1 h2 => hL pr h1 (by have := hT.1; omega) (Or.inl h2), hq2, fun (e : ty = 0) => e ▸ hW, fun (e : ty = 2) => e ▸ hW⟩
theorem WR_of {T : TT} {C : CC} {ty : Int} (hI : CInv T C) (h : C.2.2.2.2 = ty) (hty : ty = 0 ∨ ty = 2) : WR T C.2.2.2.1 ty := by
  rcases hty with e | e
  · rw [e]; exact hI.2.2.2.1 (by omega)
  · rw [e]; exact hI.2.2.2.2 (by omega)
theorem ZH_lr {D : va_G} {A : Nat → Prop} {H0 : Heap} {ad : Nat → Nat} {cI cB : ClassId} {T : TT} {C : CC} {O : OO} {H : Heap} {locs : List Loc} {x : Int} (e : C.2.1 = x) (h : ZH D A H0 (wX ad cI cB T C O) H locs) : ZH D A H0 (wX ad cI cB T (C.1, x, C.2.2.1, C.2.2.2.1, C.2.2.2.2) O) H locs := by
  subst e; exact h
noncomputable def lc (T : TT) : Int := if 0 < wz T 0 1 0 then 1 else if 0 < wz T 0 2 0 then 2 else if 0 < wz T 0 3 0 then 3 else 0
theorem lc_k {T : TT} {k : Int} (h : 1 ≤ k ∧ k ≤ 3) (ha : ∀ j, 1 ≤ j → j < k → ¬ 0 < wz T 0 j 0) (hk : 0 < wz T 0 k 0) : k = lc T := by
  unfold lc
  have : k = 1 ∨ k = 2 ∨ k = 3 := by omega
  rcases this with e | e | e
  · subst e; rw [if_pos hk]
  · subst e; rw [if_neg (ha 1 (by omega) (by omega)), if_pos hk]
  · subst e; rw [if_neg (ha 1 (by omega) (by omega)), if_neg (ha 2 (by omega) (by omega)), if_pos hk]
theorem lc_0 {T : TT} (ha : ∀ j, 1 ≤ j → j < 4 → ¬ 0 < wz T 0 j 0) : 0 = lc T := by
  unfold lc
  rw [if_neg (ha 1 (by omega) (by omega)), if_neg (ha 2 (by omega) (by omega)), if_neg (ha 3 (by omega) (by omega))]
theorem lc_bd (T : TT) : 0 ≤ lc T ∧ lc T ≤ 3 ∧ (0 < lc T → 0 < wz T 0 (lc T) 0) := by
  unfold lc
  split
  · exact ⟨by omega, by omega, fun _ => by assumption⟩
  · split
    · exact ⟨by omega, by omega, fun _ => by assumption⟩
    · split
      · exact ⟨by omega, by omega, fun _ => by assumption⟩
      · exact ⟨by omega, by omega, fun h => absurd h (by omega)⟩
end
section
set_option maxHeartbeats 4000000 in
set_option maxRecDepth 100000 in
theorem mX_stepIn (l : Launch) (D : va_G) (ad : Nat → Nat) (cI cB : ClassId) (T : TT) (C : CC) (O : OO) (pair atom fm ty : Int) (hT : TOk T) (hC : CB C) (hL : LRt T C.1 ty) (h1 : 0 ≤ pair ∧ pair ≤ 2) (h2 : 0 ≤ atom ∧ atom < 200) (h3 : 0 ≤ fm ∧ fm ≤ 6) (hy : 0 ≤ ty ∧ ty ≤ 2) : MI l D [(cI, .int), (cB, .byte)] yX0_stepIn cX0_stepIn 6 .int 0 0 [.ref (ad 0), .int (zI pair), .int (zI atom), .int (zI fm), .int (zI ty)] (wX ad cI cB T C O) (fun z (_ : Unit) => z = stI T ty pair atom fm) (fun _ => wX ad cI cB T C O) := by
  refine MI.of RX0 (by decide) rfl (Nat.le_of_ble_eq_true rfl) [(0, .ref (ad 0)), (1, .int (zI pair)), (2, .int (zI atom)), (3, .int (zI fm)), (4, .int (zI ty))] rfl ?_
  intro p e s m args below meth c A Q E ret ls h hl
  refine z_iload_n E dX0_stepIn_0 hl 1 rfl ?_
  refine z_aload_n E dX0_stepIn_1 hl 0 rfl ?_
  refine gX_ex (ex := T.1) E h dX0_stepIn_2 ?_
  have b1 := hT.1
  refine z_icmp_lt E 19 dX0_stepIn_5 (by decide) (by omega) (fun c1 => ?_) (fun c1 => ?_)
  · have c1 : (pair : Int) < (T.1 : Int) := c1
    refine z_iconst E dX0_stepIn_19 ?_
    refine z_goto E 24 dX0_stepIn_20 (by decide) ?_
    refine z_istore E [(0, .ref (ad 0)), (1, .int (zI pair)), (2, .int (zI atom)), (3, .int (zI fm)), (4, .int (zI ty)), (5, .int (zI 1))] dX0_stepIn_24 hl (by decide) [1, 2, 3, 4, 5, 0] rfl (fun ls hl => ?_)
    refine z_iload E dX0_stepIn_26 hl 5 rfl ?_
    refine z_if_eq E 51 dX0_stepIn_28 (by decide) (by omega) (fun c2 => ?_) (fun c2 => ?_)
    · have c2 : (1 : Int) = (0 : Int) := c2
      exfalso; omega
    · have c2 : (1 : Int) ≠ (0 : Int) := c2
      refine z_aload_n E dX0_stepIn_31 hl 0 rfl ?_
      refine gX_ld E h dX0_stepIn_32 ?_
      refine z_iload_n E dX0_stepIn_35 hl 1 rfl ?_
      refine z_sipush E dX0_stepIn_36 (by decide +kernel) ?_
      refine z_imul E dX0_stepIn_39 ?_
      refine z_iload_n E dX0_stepIn_40 hl 2 rfl ?_
      refine z_iadd E dX0_stepIn_41 ?_
      refine z_bipush E dX0_stepIn_42 (by decide +kernel) ?_
      refine z_imul E dX0_stepIn_44 ?_
      refine z_iload_n E dX0_stepIn_45 hl 3 rfl ?_
      refine z_iadd E dX0_stepIn_46 ?_
      refine lX_ld E h (by omega) dX0_stepIn_47 (fun x1 ex1 => ?_)
      have ex1 : x1 = C.1 ((((pair * 200) + atom) * 7) + fm) := ex1
      have b2 := hC.1 ((((pair * 200) + atom) * 7) + fm)
      refine z_goto E 52 dX0_stepIn_48 (by decide) ?_
      exact ret () dX0_stepIn_52 rfl (by unfold stI; rw [if_pos (by omega), ex1]; exact hL pair (by omega) (by omega) (by omega) atom fm (by omega) (by omega) (by omega) (by omega)) h
  · have c1 : (T.1 : Int) ≤ (pair : Int) := c1
    refine z_iload_n E dX0_stepIn_8 hl 1 rfl ?_
    refine z_iconst E dX0_stepIn_9 ?_
    refine z_icmp_ne E 23 dX0_stepIn_10 (by decide) (by omega) (fun c2 => ?_) (fun c2 => ?_)
    · have c2 : (pair : Int) ≠ (2 : Int) := c2
      refine z_iconst E dX0_stepIn_23 ?_
      refine z_istore E [(0, .ref (ad 0)), (1, .int (zI pair)), (2, .int (zI atom)), (3, .int (zI fm)), (4, .int (zI ty)), (5, .int (zI 0))] dX0_stepIn_24 hl (by decide) [1, 2, 3, 4, 5, 0] rfl (fun ls hl => ?_)
      refine z_iload E dX0_stepIn_26 hl 5 rfl ?_
      refine z_if_eq E 51 dX0_stepIn_28 (by decide) (by omega) (fun c3 => ?_) (fun c3 => ?_)
      · have c3 : (0 : Int) = (0 : Int) := c3
        refine z_iload_n E dX0_stepIn_51 hl 3 rfl ?_
        exact ret () dX0_stepIn_52 rfl (by unfold stI; rw [if_neg (by omega)]) h
      · have c3 : (0 : Int) ≠ (0 : Int) := c3
        exfalso; omega
    · have c2 : (pair : Int) = (2 : Int) := c2
      refine z_iload E dX0_stepIn_13 hl 4 rfl ?_
      refine z_iconst E dX0_stepIn_15 ?_
      refine z_icmp_ne E 23 dX0_stepIn_16 (by decide) (by omega) (fun c3 => ?_) (fun c3 => ?_)
      · have c3 : (ty : Int) ≠ (2 : Int) := c3
        refine z_iconst E dX0_stepIn_23 ?_
        refine z_istore E [(0, .ref (ad 0)), (1, .int (zI pair)), (2, .int (zI atom)), (3, .int (zI fm)), (4, .int (zI ty)), (5, .int (zI 0))] dX0_stepIn_24 hl (by decide) [1, 2, 3, 4, 5, 0] rfl (fun ls hl => ?_)
        refine z_iload E dX0_stepIn_26 hl 5 rfl ?_
        refine z_if_eq E 51 dX0_stepIn_28 (by decide) (by omega) (fun c4 => ?_) (fun c4 => ?_)
        · have c4 : (0 : Int) = (0 : Int) := c4
          refine z_iload_n E dX0_stepIn_51 hl 3 rfl ?_
          exact ret () dX0_stepIn_52 rfl (by unfold stI; rw [if_neg (by omega)]) h
        · have c4 : (0 : Int) ≠ (0 : Int) := c4
          exfalso; omega
      · have c3 : (ty : Int) = (2 : Int) := c3
        refine z_iconst E dX0_stepIn_19 ?_
        refine z_goto E 24 dX0_stepIn_20 (by decide) ?_
        refine z_istore E [(0, .ref (ad 0)), (1, .int (zI pair)), (2, .int (zI atom)), (3, .int (zI fm)), (4, .int (zI ty)), (5, .int (zI 1))] dX0_stepIn_24 hl (by decide) [1, 2, 3, 4, 5, 0] rfl (fun ls hl => ?_)
        refine z_iload E dX0_stepIn_26 hl 5 rfl ?_
        refine z_if_eq E 51 dX0_stepIn_28 (by decide) (by omega) (fun c4 => ?_) (fun c4 => ?_)
        · have c4 : (1 : Int) = (0 : Int) := c4
          exfalso; omega
        · have c4 : (1 : Int) ≠ (0 : Int) := c4
          refine z_aload_n E dX0_stepIn_31 hl 0 rfl ?_
          refine gX_ld E h dX0_stepIn_32 ?_
          refine z_iload_n E dX0_stepIn_35 hl 1 rfl ?_
          refine z_sipush E dX0_stepIn_36 (by decide +kernel) ?_
          refine z_imul E dX0_stepIn_39 ?_
          refine z_iload_n E dX0_stepIn_40 hl 2 rfl ?_
          refine z_iadd E dX0_stepIn_41 ?_
          refine z_bipush E dX0_stepIn_42 (by decide +kernel) ?_
          refine z_imul E dX0_stepIn_44 ?_
          refine z_iload_n E dX0_stepIn_45 hl 3 rfl ?_
          refine z_iadd E dX0_stepIn_46 ?_
          refine lX_ld E h (by omega) dX0_stepIn_47 (fun x1 ex1 => ?_)
          have ex1 : x1 = C.1 ((((pair * 200) + atom) * 7) + fm) := ex1
          have b2 := hC.1 ((((pair * 200) + atom) * 7) + fm)
          refine z_goto E 52 dX0_stepIn_48 (by decide) ?_
          exact ret () dX0_stepIn_52 rfl (by unfold stI; rw [if_pos (by omega), ex1]; exact hL pair (by omega) (by omega) (by omega) atom fm (by omega) (by omega) (by omega) (by omega)) h
set_option maxHeartbeats 4000000 in
set_option maxRecDepth 100000 in
theorem mX_step (l : Launch) (D : va_G) (ad : Nat → Nat) (cI cB : ClassId) (T : TT) (C : CC) (O : OO) (node atom ty : Int) (hT : TOk T) (hC : CB C) (hL : LRt T C.1 ty) (hv : 0 ≤ node ∧ node < 343) (h2 : 0 ≤ atom ∧ atom < 200) (hy : 0 ≤ ty ∧ ty ≤ 2) : MI l D [(cI, .int), (cB, .byte)] yX0_step cX0_step 7 .int 1 25 [.ref (ad 0), .int (zI node), .int (zI atom), .int (zI ty)] (wX ad cI cB T C O) (fun z (_ : Unit) => z = stp T ty node atom) (fun _ => wX ad cI cB T C O) := by
  refine MI.of RX0 (by decide) rfl (Nat.le_of_ble_eq_true rfl) [(0, .ref (ad 0)), (1, .int (zI node)), (2, .int (zI atom)), (3, .int (zI ty))] rfl ?_
  intro p e s m args below meth c A Q E ret ls h hl
  refine z_aload_n E dX0_step_0 hl 0 rfl ?_
  refine z_iconst E dX0_step_1 ?_
  refine z_iload_n E dX0_step_2 hl 2 rfl ?_
  refine z_iload_n E dX0_step_3 hl 1 rfl ?_
  refine z_bipush E dX0_step_4 (by decide +kernel) ?_
  refine z_irem E dX0_step_6 (by omega) (by omega) ?_
  refine z_iload_n E dX0_step_7 hl 3 rfl ?_
  refine z_call (n := 4) (rest := []) E h (mX_stepIn l D ad cI cB T C O 0 atom (node % 7) ty hT hC hL (by omega) (by omega) (by omega) (by omega)) q174 q176 qs14 q33 q177 (by decide +kernel) ⟨Nat.le_of_ble_eq_true rfl, Nat.le_of_ble_eq_true rfl⟩ ⟨Nat.le_refl _, Nat.le_refl _⟩ rfl rfl rfl hl.1 (Nat.le_of_ble_eq_true rfl) rfl dX0_step_8 (fun r1 ur1 H locs er1 h => ?_)
  have br1 := stI_bd hT (ty := ty) (pr := 0) (a := atom) (show 0 ≤ node % 7 ∧ node % 7 ≤ 6 by omega)
  have h : ZH D A s.heap (wX ad cI cB T C O) H locs := h
  refine z_istore E [(0, .ref (ad 0)), (1, .int (zI node)), (2, .int (zI atom)), (3, .int (zI ty)), (4, .int (zI r1))] dX0_step_11 hl (by decide) [1, 2, 3, 4, 0] rfl (fun ls hl => ?_)
  refine z_aload_n E dX0_step_13 hl 0 rfl ?_
  refine z_iconst E dX0_step_14 ?_
  refine z_iload_n E dX0_step_15 hl 2 rfl ?_
  refine z_iload_n E dX0_step_16 hl 1 rfl ?_
  refine z_bipush E dX0_step_17 (by decide +kernel) ?_
  refine z_idiv E dX0_step_19 (by omega) (by omega) ?_
  refine z_bipush E dX0_step_20 (by decide +kernel) ?_
  refine z_irem E dX0_step_22 (by omega) (by omega) ?_
  refine z_iload_n E dX0_step_23 hl 3 rfl ?_
  refine z_call (n := 4) (rest := []) E h (mX_stepIn l D ad cI cB T C O 1 atom ((node / 7) % 7) ty hT hC hL (by omega) (by omega) (by omega) (by omega)) q174 q176 qs14 q33 q177 (by decide +kernel) ⟨Nat.le_of_ble_eq_true rfl, Nat.le_of_ble_eq_true rfl⟩ ⟨Nat.le_refl _, Nat.le_refl _⟩ rfl rfl rfl hl.1 (Nat.le_of_ble_eq_true rfl) rfl dX0_step_24 (fun r2 ur2 H locs er2 h => ?_)
  have br2 := stI_bd hT (ty := ty) (pr := 1) (a := atom) (show 0 ≤ (node / 7) % 7 ∧ (node / 7) % 7 ≤ 6 by omega)
  have h : ZH D A s.heap (wX ad cI cB T C O) H locs := h
  refine z_istore E [(0, .ref (ad 0)), (1, .int (zI node)), (2, .int (zI atom)), (3, .int (zI ty)), (4, .int (zI r1)), (5, .int (zI r2))] dX0_step_27 hl (by decide) [1, 2, 3, 4, 5, 0] rfl (fun ls hl => ?_)
  refine z_aload_n E dX0_step_29 hl 0 rfl ?_
  refine z_iconst E dX0_step_30 ?_
  refine z_iload_n E dX0_step_31 hl 2 rfl ?_
  refine z_iload_n E dX0_step_32 hl 1 rfl ?_
  refine z_bipush E dX0_step_33 (by decide +kernel) ?_
  refine z_idiv E dX0_step_35 (by omega) (by omega) ?_
  refine z_iload_n E dX0_step_36 hl 3 rfl ?_
  refine z_call (n := 4) (rest := []) E h (mX_stepIn l D ad cI cB T C O 2 atom (node / 49) ty hT hC hL (by omega) (by omega) (by omega) (by omega)) q174 q176 qs14 q33 q177 (by decide +kernel) ⟨Nat.le_of_ble_eq_true rfl, Nat.le_of_ble_eq_true rfl⟩ ⟨Nat.le_refl _, Nat.le_refl _⟩ rfl rfl rfl hl.1 (Nat.le_of_ble_eq_true rfl) rfl dX0_step_37 (fun r3 ur3 H locs er3 h => ?_)
  have br3 := stI_bd hT (ty := ty) (pr := 2) (a := atom) (show 0 ≤ node / 49 ∧ node / 49 ≤ 6 by omega)
  have h : ZH D A s.heap (wX ad cI cB T C O) H locs := h
  refine z_istore E [(0, .ref (ad 0)), (1, .int (zI node)), (2, .int (zI atom)), (3, .int (zI ty)), (4, .int (zI r1)), (5, .int (zI r2)), (6, .int (zI r3))] dX0_step_40 hl (by decide) [1, 2, 3, 4, 5, 6, 0] rfl (fun ls hl => ?_)
  refine z_iload E dX0_step_42 hl 4 rfl ?_
  refine z_if_lt E 57 dX0_step_44 (by decide) (by omega) (fun c1 => ?_) (fun c1 => ?_)
  · have c1 : (r1 : Int) < (0 : Int) := c1
    refine z_iconst E dX0_step_57 ?_
    refine z_goto E 75 dX0_step_58 (by decide) ?_
    exact ret () dX0_step_75 rfl (by unfold stp; rw [← er1, ← er2, ← er3, if_pos (by omega)]) h
  · have c1 : (0 : Int) ≤ (r1 : Int) := c1
    refine z_iload E dX0_step_47 hl 5 rfl ?_
    refine z_if_lt E 57 dX0_step_49 (by decide) (by omega) (fun c2 => ?_) (fun c2 => ?_)
    · have c2 : (r2 : Int) < (0 : Int) := c2
      refine z_iconst E dX0_step_57 ?_
      refine z_goto E 75 dX0_step_58 (by decide) ?_
      exact ret () dX0_step_75 rfl (by unfold stp; rw [← er1, ← er2, ← er3, if_pos (by omega)]) h
    · have c2 : (0 : Int) ≤ (r2 : Int) := c2
      refine z_iload E dX0_step_52 hl 6 rfl ?_
      refine z_if_ge E 61 dX0_step_54 (by decide) (by omega) (fun c3 => ?_) (fun c3 => ?_)
      · have c3 : (0 : Int) ≤ (r3 : Int) := c3
        refine z_iload E dX0_step_61 hl 4 rfl ?_
        refine z_bipush E dX0_step_63 (by decide +kernel) ?_
        refine z_iload E dX0_step_65 hl 5 rfl ?_
        refine z_imul E dX0_step_67 ?_
        refine z_iadd E dX0_step_68 ?_
        refine z_bipush E dX0_step_69 (by decide +kernel) ?_
        refine z_iload E dX0_step_71 hl 6 rfl ?_
        refine z_imul E dX0_step_73 ?_
        refine z_iadd E dX0_step_74 ?_
        exact ret () dX0_step_75 rfl (by unfold stp; rw [← er1, ← er2, ← er3, if_neg (by omega)]) h
      · have c3 : (r3 : Int) < (0 : Int) := c3
        refine z_iconst E dX0_step_57 ?_
        refine z_goto E 75 dX0_step_58 (by decide) ?_
        exact ret () dX0_step_75 rfl (by unfold stp; rw [← er1, ← er2, ← er3, if_pos (by omega)]) h
set_option maxHeartbeats 4000000 in
set_option maxRecDepth 100000 in
theorem mX_lastNode (l : Launch) (D : va_G) (ad : Nat → Nat) (cI cB : ClassId) (T : TT) (C : CC) (O : OO) (ty : Int) (hT : TOk T) (hy : 0 ≤ ty ∧ ty ≤ 2) : MI l D [(cI, .int), (cB, .byte)] yX0_lastNode cX0_lastNode 5 .int 0 0 [.ref (ad 0), .int (zI ty)] (wX ad cI cB T C O) (fun z (_ : Unit) => z = lst T ty) (fun _ => wX ad cI cB T C O) := by
  refine MI.of RX0 (by decide) rfl (Nat.le_of_ble_eq_true rfl) [(0, .ref (ad 0)), (1, .int (zI ty))] rfl ?_
  intro p e s m args below meth c A Q E ret ls h hl
  refine z_aload_n E dX0_lastNode_0 hl 0 rfl ?_
  refine gX_ex (ex := T.1) E h dX0_lastNode_1 ?_
  have b1 := hT.1
  refine z_if_le E 16 dX0_lastNode_4 (by decide) (by omega) (fun c1 => ?_) (fun c1 => ?_)
  · have c1 : (T.1 : Int) ≤ (0 : Int) := c1
    refine z_iconst E dX0_lastNode_16 ?_
    refine z_istore_n E [(0, .ref (ad 0)), (1, .int (zI ty)), (2, .int (zI 0))] dX0_lastNode_17 hl (by decide) [1, 2, 0] rfl (fun ls hl => ?_)
    refine z_aload_n E dX0_lastNode_18 hl 0 rfl ?_
    refine gX_ex (ex := T.1) E h dX0_lastNode_19 ?_
    have b2 := hT.1
    refine z_iconst E dX0_lastNode_22 ?_
    refine z_icmp_le E 35 dX0_lastNode_23 (by decide) (by omega) (fun c2 => ?_) (fun c2 => ?_)
    · have c2 : (T.1 : Int) ≤ (1 : Int) := c2
      refine z_iconst E dX0_lastNode_35 ?_
      refine z_istore_n E [(0, .ref (ad 0)), (1, .int (zI ty)), (2, .int (zI 0)), (3, .int (zI 0))] dX0_lastNode_36 hl (by decide) [1, 2, 3, 0] rfl (fun ls hl => ?_)
      refine z_iload_n E dX0_lastNode_37 hl 1 rfl ?_
      refine z_iconst E dX0_lastNode_38 ?_
      refine z_icmp_ne E 51 dX0_lastNode_39 (by decide) (by omega) (fun c3 => ?_) (fun c3 => ?_)
      · have c3 : (ty : Int) ≠ (2 : Int) := c3
        refine z_iconst E dX0_lastNode_51 ?_
        refine z_istore E [(0, .ref (ad 0)), (1, .int (zI ty)), (2, .int (zI 0)), (3, .int (zI 0)), (4, .int (zI 0))] dX0_lastNode_52 hl (by decide) [1, 2, 3, 4, 0] rfl (fun ls hl => ?_)
        refine z_iload_n E dX0_lastNode_54 hl 2 rfl ?_
        refine z_bipush E dX0_lastNode_55 (by decide +kernel) ?_
        refine z_iload_n E dX0_lastNode_57 hl 3 rfl ?_
        refine z_imul E dX0_lastNode_58 ?_
        refine z_iadd E dX0_lastNode_59 ?_
        refine z_bipush E dX0_lastNode_60 (by decide +kernel) ?_
        refine z_iload E dX0_lastNode_62 hl 4 rfl ?_
        refine z_imul E dX0_lastNode_64 ?_
        refine z_iadd E dX0_lastNode_65 ?_
        exact ret () dX0_lastNode_66 rfl (by unfold lst; (repeat' split) <;> omega) h
      · have c3 : (ty : Int) = (2 : Int) := c3
        refine z_aload_n E dX0_lastNode_42 hl 0 rfl ?_
        refine gX_ol E h dX0_lastNode_43 ?_
        refine z_iconst E dX0_lastNode_46 ?_
        refine lX_ol E h (by omega) dX0_lastNode_47 (fun x1 ex1 => ?_)
        have ex1 : x1 = T.2.2.1 2 := ex1
        have b3 := hT.2.2.1 2
        refine z_goto E 52 dX0_lastNode_48 (by decide) ?_
        refine z_istore E [(0, .ref (ad 0)), (1, .int (zI ty)), (2, .int (zI 0)), (3, .int (zI 0)), (4, .int (zI x1))] dX0_lastNode_52 hl (by decide) [1, 2, 3, 4, 0] rfl (fun ls hl => ?_)
        refine z_iload_n E dX0_lastNode_54 hl 2 rfl ?_
        refine z_bipush E dX0_lastNode_55 (by decide +kernel) ?_
        refine z_iload_n E dX0_lastNode_57 hl 3 rfl ?_
        refine z_imul E dX0_lastNode_58 ?_
        refine z_iadd E dX0_lastNode_59 ?_
        refine z_bipush E dX0_lastNode_60 (by decide +kernel) ?_
        refine z_iload E dX0_lastNode_62 hl 4 rfl ?_
        refine z_imul E dX0_lastNode_64 ?_
        refine z_iadd E dX0_lastNode_65 ?_
        exact ret () dX0_lastNode_66 rfl (by unfold lst; (repeat' split) <;> omega) h
    · have c2 : (1 : Int) < (T.1 : Int) := c2
      refine z_aload_n E dX0_lastNode_26 hl 0 rfl ?_
      refine gX_ol E h dX0_lastNode_27 ?_
      refine z_iconst E dX0_lastNode_30 ?_
      refine lX_ol E h (by omega) dX0_lastNode_31 (fun x1 ex1 => ?_)
      have ex1 : x1 = T.2.2.1 1 := ex1
      have b3 := hT.2.2.1 1
      refine z_goto E 36 dX0_lastNode_32 (by decide) ?_
      refine z_istore_n E [(0, .ref (ad 0)), (1, .int (zI ty)), (2, .int (zI 0)), (3, .int (zI x1))] dX0_lastNode_36 hl (by decide) [1, 2, 3, 0] rfl (fun ls hl => ?_)
      refine z_iload_n E dX0_lastNode_37 hl 1 rfl ?_
      refine z_iconst E dX0_lastNode_38 ?_
      refine z_icmp_ne E 51 dX0_lastNode_39 (by decide) (by omega) (fun c3 => ?_) (fun c3 => ?_)
      · have c3 : (ty : Int) ≠ (2 : Int) := c3
        refine z_iconst E dX0_lastNode_51 ?_
        refine z_istore E [(0, .ref (ad 0)), (1, .int (zI ty)), (2, .int (zI 0)), (3, .int (zI x1)), (4, .int (zI 0))] dX0_lastNode_52 hl (by decide) [1, 2, 3, 4, 0] rfl (fun ls hl => ?_)
        refine z_iload_n E dX0_lastNode_54 hl 2 rfl ?_
        refine z_bipush E dX0_lastNode_55 (by decide +kernel) ?_
        refine z_iload_n E dX0_lastNode_57 hl 3 rfl ?_
        refine z_imul E dX0_lastNode_58 ?_
        refine z_iadd E dX0_lastNode_59 ?_
        refine z_bipush E dX0_lastNode_60 (by decide +kernel) ?_
        refine z_iload E dX0_lastNode_62 hl 4 rfl ?_
        refine z_imul E dX0_lastNode_64 ?_
        refine z_iadd E dX0_lastNode_65 ?_
        exact ret () dX0_lastNode_66 rfl (by unfold lst; (repeat' split) <;> omega) h
      · have c3 : (ty : Int) = (2 : Int) := c3
        refine z_aload_n E dX0_lastNode_42 hl 0 rfl ?_
        refine gX_ol E h dX0_lastNode_43 ?_
        refine z_iconst E dX0_lastNode_46 ?_
        refine lX_ol E h (by omega) dX0_lastNode_47 (fun x2 ex2 => ?_)
        have ex2 : x2 = T.2.2.1 2 := ex2
        have b4 := hT.2.2.1 2
        refine z_goto E 52 dX0_lastNode_48 (by decide) ?_
        refine z_istore E [(0, .ref (ad 0)), (1, .int (zI ty)), (2, .int (zI 0)), (3, .int (zI x1)), (4, .int (zI x2))] dX0_lastNode_52 hl (by decide) [1, 2, 3, 4, 0] rfl (fun ls hl => ?_)
        refine z_iload_n E dX0_lastNode_54 hl 2 rfl ?_
        refine z_bipush E dX0_lastNode_55 (by decide +kernel) ?_
        refine z_iload_n E dX0_lastNode_57 hl 3 rfl ?_
        refine z_imul E dX0_lastNode_58 ?_
        refine z_iadd E dX0_lastNode_59 ?_
        refine z_bipush E dX0_lastNode_60 (by decide +kernel) ?_
        refine z_iload E dX0_lastNode_62 hl 4 rfl ?_
        refine z_imul E dX0_lastNode_64 ?_
        refine z_iadd E dX0_lastNode_65 ?_
        exact ret () dX0_lastNode_66 rfl (by unfold lst; (repeat' split) <;> omega) h
  · have c1 : (0 : Int) < (T.1 : Int) := c1
    refine z_aload_n E dX0_lastNode_7 hl 0 rfl ?_
    refine gX_ol E h dX0_lastNode_8 ?_
    refine z_iconst E dX0_lastNode_11 ?_
    refine lX_ol E h (by omega) dX0_lastNode_12 (fun x1 ex1 => ?_)
    have ex1 : x1 = T.2.2.1 0 := ex1
    have b2 := hT.2.2.1 0
    refine z_goto E 17 dX0_lastNode_13 (by decide) ?_
    refine z_istore_n E [(0, .ref (ad 0)), (1, .int (zI ty)), (2, .int (zI x1))] dX0_lastNode_17 hl (by decide) [1, 2, 0] rfl (fun ls hl => ?_)
    refine z_aload_n E dX0_lastNode_18 hl 0 rfl ?_
    refine gX_ex (ex := T.1) E h dX0_lastNode_19 ?_
    have b3 := hT.1
    refine z_iconst E dX0_lastNode_22 ?_
    refine z_icmp_le E 35 dX0_lastNode_23 (by decide) (by omega) (fun c2 => ?_) (fun c2 => ?_)
    · have c2 : (T.1 : Int) ≤ (1 : Int) := c2
      refine z_iconst E dX0_lastNode_35 ?_
      refine z_istore_n E [(0, .ref (ad 0)), (1, .int (zI ty)), (2, .int (zI x1)), (3, .int (zI 0))] dX0_lastNode_36 hl (by decide) [1, 2, 3, 0] rfl (fun ls hl => ?_)
      refine z_iload_n E dX0_lastNode_37 hl 1 rfl ?_
      refine z_iconst E dX0_lastNode_38 ?_
      refine z_icmp_ne E 51 dX0_lastNode_39 (by decide) (by omega) (fun c3 => ?_) (fun c3 => ?_)
      · have c3 : (ty : Int) ≠ (2 : Int) := c3
        refine z_iconst E dX0_lastNode_51 ?_
        refine z_istore E [(0, .ref (ad 0)), (1, .int (zI ty)), (2, .int (zI x1)), (3, .int (zI 0)), (4, .int (zI 0))] dX0_lastNode_52 hl (by decide) [1, 2, 3, 4, 0] rfl (fun ls hl => ?_)
        refine z_iload_n E dX0_lastNode_54 hl 2 rfl ?_
        refine z_bipush E dX0_lastNode_55 (by decide +kernel) ?_
        refine z_iload_n E dX0_lastNode_57 hl 3 rfl ?_
        refine z_imul E dX0_lastNode_58 ?_
        refine z_iadd E dX0_lastNode_59 ?_
        refine z_bipush E dX0_lastNode_60 (by decide +kernel) ?_
        refine z_iload E dX0_lastNode_62 hl 4 rfl ?_
        refine z_imul E dX0_lastNode_64 ?_
        refine z_iadd E dX0_lastNode_65 ?_
        exact ret () dX0_lastNode_66 rfl (by unfold lst; (repeat' split) <;> omega) h
      · have c3 : (ty : Int) = (2 : Int) := c3
        refine z_aload_n E dX0_lastNode_42 hl 0 rfl ?_
        refine gX_ol E h dX0_lastNode_43 ?_
        refine z_iconst E dX0_lastNode_46 ?_
        refine lX_ol E h (by omega) dX0_lastNode_47 (fun x2 ex2 => ?_)
        have ex2 : x2 = T.2.2.1 2 := ex2
        have b4 := hT.2.2.1 2
        refine z_goto E 52 dX0_lastNode_48 (by decide) ?_
        refine z_istore E [(0, .ref (ad 0)), (1, .int (zI ty)), (2, .int (zI x1)), (3, .int (zI 0)), (4, .int (zI x2))] dX0_lastNode_52 hl (by decide) [1, 2, 3, 4, 0] rfl (fun ls hl => ?_)
        refine z_iload_n E dX0_lastNode_54 hl 2 rfl ?_
        refine z_bipush E dX0_lastNode_55 (by decide +kernel) ?_
        refine z_iload_n E dX0_lastNode_57 hl 3 rfl ?_
        refine z_imul E dX0_lastNode_58 ?_
        refine z_iadd E dX0_lastNode_59 ?_
        refine z_bipush E dX0_lastNode_60 (by decide +kernel) ?_
        refine z_iload E dX0_lastNode_62 hl 4 rfl ?_
        refine z_imul E dX0_lastNode_64 ?_
        refine z_iadd E dX0_lastNode_65 ?_
        exact ret () dX0_lastNode_66 rfl (by unfold lst; (repeat' split) <;> omega) h
    · have c2 : (1 : Int) < (T.1 : Int) := c2
      refine z_aload_n E dX0_lastNode_26 hl 0 rfl ?_
      refine gX_ol E h dX0_lastNode_27 ?_
      refine z_iconst E dX0_lastNode_30 ?_
      refine lX_ol E h (by omega) dX0_lastNode_31 (fun x2 ex2 => ?_)
      have ex2 : x2 = T.2.2.1 1 := ex2
      have b4 := hT.2.2.1 1
      refine z_goto E 36 dX0_lastNode_32 (by decide) ?_
      refine z_istore_n E [(0, .ref (ad 0)), (1, .int (zI ty)), (2, .int (zI x1)), (3, .int (zI x2))] dX0_lastNode_36 hl (by decide) [1, 2, 3, 0] rfl (fun ls hl => ?_)
      refine z_iload_n E dX0_lastNode_37 hl 1 rfl ?_
      refine z_iconst E dX0_lastNode_38 ?_
      refine z_icmp_ne E 51 dX0_lastNode_39 (by decide) (by omega) (fun c3 => ?_) (fun c3 => ?_)
      · have c3 : (ty : Int) ≠ (2 : Int) := c3
        refine z_iconst E dX0_lastNode_51 ?_
        refine z_istore E [(0, .ref (ad 0)), (1, .int (zI ty)), (2, .int (zI x1)), (3, .int (zI x2)), (4, .int (zI 0))] dX0_lastNode_52 hl (by decide) [1, 2, 3, 4, 0] rfl (fun ls hl => ?_)
        refine z_iload_n E dX0_lastNode_54 hl 2 rfl ?_
        refine z_bipush E dX0_lastNode_55 (by decide +kernel) ?_
        refine z_iload_n E dX0_lastNode_57 hl 3 rfl ?_
        refine z_imul E dX0_lastNode_58 ?_
        refine z_iadd E dX0_lastNode_59 ?_
        refine z_bipush E dX0_lastNode_60 (by decide +kernel) ?_
        refine z_iload E dX0_lastNode_62 hl 4 rfl ?_
        refine z_imul E dX0_lastNode_64 ?_
        refine z_iadd E dX0_lastNode_65 ?_
        exact ret () dX0_lastNode_66 rfl (by unfold lst; (repeat' split) <;> omega) h
      · have c3 : (ty : Int) = (2 : Int) := c3
        refine z_aload_n E dX0_lastNode_42 hl 0 rfl ?_
        refine gX_ol E h dX0_lastNode_43 ?_
        refine z_iconst E dX0_lastNode_46 ?_
        refine lX_ol E h (by omega) dX0_lastNode_47 (fun x3 ex3 => ?_)
        have ex3 : x3 = T.2.2.1 2 := ex3
        have b5 := hT.2.2.1 2
        refine z_goto E 52 dX0_lastNode_48 (by decide) ?_
        refine z_istore E [(0, .ref (ad 0)), (1, .int (zI ty)), (2, .int (zI x1)), (3, .int (zI x2)), (4, .int (zI x3))] dX0_lastNode_52 hl (by decide) [1, 2, 3, 4, 0] rfl (fun ls hl => ?_)
        refine z_iload_n E dX0_lastNode_54 hl 2 rfl ?_
        refine z_bipush E dX0_lastNode_55 (by decide +kernel) ?_
        refine z_iload_n E dX0_lastNode_57 hl 3 rfl ?_
        refine z_imul E dX0_lastNode_58 ?_
        refine z_iadd E dX0_lastNode_59 ?_
        refine z_bipush E dX0_lastNode_60 (by decide +kernel) ?_
        refine z_iload E dX0_lastNode_62 hl 4 rfl ?_
        refine z_imul E dX0_lastNode_64 ?_
        refine z_iadd E dX0_lastNode_65 ?_
        exact ret () dX0_lastNode_66 rfl (by unfold lst; (repeat' split) <;> omega) h
set_option maxHeartbeats 4000000 in
set_option maxRecDepth 100000 in
theorem mX_exists (l : Launch) (D : va_G) (ad : Nat → Nat) (cI cB : ClassId) (T : TT) (C : CC) (O : OO) (node last : Int) (hv : 0 ≤ node ∧ node < 343) (hu : 0 ≤ last ∧ last < 343) : MI l D [(cI, .int), (cB, .byte)] yX0_exists cX0_exists 3 .boolean 0 0 [.ref (ad 0), .int (zI node), .int (zI last)] (wX ad cI cB T C O) (fun z (_ : Unit) => (z = 0 ∨ z = 1) ∧ (z = 1 ↔ node % 7 ≤ last % 7 ∧ node / 7 % 7 ≤ last / 7 % 7 ∧ node / 49 ≤ last / 49)) (fun _ => wX ad cI cB T C O) := by
  refine MI.of RX0 (by decide) rfl (Nat.le_of_ble_eq_true rfl) [(0, .ref (ad 0)), (1, .int (zI node)), (2, .int (zI last))] rfl ?_
  intro p e s m args below meth c A Q E ret ls h hl
  refine z_iload_n E dX0_exists_0 hl 1 rfl ?_
  refine z_bipush E dX0_exists_1 (by decide +kernel) ?_
  refine z_irem E dX0_exists_3 (by omega) (by omega) ?_
  refine z_iload_n E dX0_exists_4 hl 2 rfl ?_
  refine z_bipush E dX0_exists_5 (by decide +kernel) ?_
  refine z_irem E dX0_exists_7 (by omega) (by omega) ?_
  refine z_icmp_gt E 43 dX0_exists_8 (by decide) (by omega) (fun c1 => ?_) (fun c1 => ?_)
  · have c1 : (last % 7 : Int) < (node % 7 : Int) := c1
    refine z_iconst E dX0_exists_43 ?_
    exact ret () dX0_exists_44 (zI_bool (by omega)).1 (⟨by omega, ⟨fun q => by omega, fun q => by omega⟩⟩) h
  · have c1 : (node % 7 : Int) ≤ (last % 7 : Int) := c1
    refine z_iload_n E dX0_exists_11 hl 1 rfl ?_
    refine z_bipush E dX0_exists_12 (by decide +kernel) ?_
    refine z_idiv E dX0_exists_14 (by omega) (by omega) ?_
    refine z_bipush E dX0_exists_15 (by decide +kernel) ?_
    refine z_irem E dX0_exists_17 (by omega) (by omega) ?_
    refine z_iload_n E dX0_exists_18 hl 2 rfl ?_
    refine z_bipush E dX0_exists_19 (by decide +kernel) ?_
    refine z_idiv E dX0_exists_21 (by omega) (by omega) ?_
    refine z_bipush E dX0_exists_22 (by decide +kernel) ?_
    refine z_irem E dX0_exists_24 (by omega) (by omega) ?_
    refine z_icmp_gt E 43 dX0_exists_25 (by decide) (by omega) (fun c2 => ?_) (fun c2 => ?_)
    · have c2 : ((last / 7) % 7 : Int) < ((node / 7) % 7 : Int) := c2
      refine z_iconst E dX0_exists_43 ?_
      exact ret () dX0_exists_44 (zI_bool (by omega)).1 (⟨by omega, ⟨fun q => by omega, fun q => by omega⟩⟩) h
    · have c2 : ((node / 7) % 7 : Int) ≤ ((last / 7) % 7 : Int) := c2
      refine z_iload_n E dX0_exists_28 hl 1 rfl ?_
      refine z_bipush E dX0_exists_29 (by decide +kernel) ?_
      refine z_idiv E dX0_exists_31 (by omega) (by omega) ?_
      refine z_iload_n E dX0_exists_32 hl 2 rfl ?_
      refine z_bipush E dX0_exists_33 (by decide +kernel) ?_
      refine z_idiv E dX0_exists_35 (by omega) (by omega) ?_
      refine z_icmp_gt E 43 dX0_exists_36 (by decide) (by omega) (fun c3 => ?_) (fun c3 => ?_)
      · have c3 : (last / 49 : Int) < (node / 49 : Int) := c3
        refine z_iconst E dX0_exists_43 ?_
        exact ret () dX0_exists_44 (zI_bool (by omega)).1 (⟨by omega, ⟨fun q => by omega, fun q => by omega⟩⟩) h
      · have c3 : (node / 49 : Int) ≤ (last / 49 : Int) := c3
        refine z_iconst E dX0_exists_39 ?_
        refine z_goto E 44 dX0_exists_40 (by decide) ?_
        exact ret () dX0_exists_44 (zI_bool (by omega)).1 (⟨by omega, ⟨fun q => by omega, fun q => by omega⟩⟩) h
set_option maxHeartbeats 4000000 in
set_option maxRecDepth 100000 in
theorem mX_countFrom (l : Launch) (D : va_G) (ad : Nat → Nat) (cI cB : ClassId) (T : TT) (C : CC) (O : OO) (node k ty : Int) (hT : TOk T) (hC : CB C) (hL : LRt T C.1 ty) (hv : 0 ≤ node ∧ node < 343) (hk : 1 ≤ k ∧ k ≤ 3) (hy : 0 ≤ ty ∧ ty ≤ 2) (hW : ∀ v, 0 ≤ v → v < 343 → C.2.2.2.1 ((k - 1) * 343 + v) = wz T ty (k - 1) v) : MI l D [(cI, .int), (cB, .byte)] yX0_countFrom cX0_countFrom 7 .int 2 51 [.ref (ad 0), .int (zI node), .int (zI k), .int (zI ty)] (wX ad cI cB T C O) (fun z (_ : Unit) => z = sumZ (wt T ty (k - 1) node) 200) (fun _ => wX ad cI cB T C O) := by
  refine MI.of RX0 (by decide) rfl (Nat.le_of_ble_eq_true rfl) [(0, .ref (ad 0)), (1, .int (zI node)), (2, .int (zI k)), (3, .int (zI ty))] rfl ?_
  intro p e s m args below meth c A Q E ret ls h hl
  refine z_iconst E dX0_countFrom_0 ?_
  refine z_istore E [(0, .ref (ad 0)), (1, .int (zI node)), (2, .int (zI k)), (3, .int (zI ty)), (4, .int (zI 0))] dX0_countFrom_1 hl (by decide) [1, 2, 3, 4, 0] rfl (fun ls hl => ?_)
  refine z_iconst E dX0_countFrom_3 ?_
  refine z_istore E [(0, .ref (ad 0)), (1, .int (zI node)), (2, .int (zI k)), (3, .int (zI ty)), (4, .int (zI 0)), (5, .int (zI 0))] dX0_countFrom_4 hl (by decide) [1, 2, 3, 4, 5, 0] rfl (fun ls hl => ?_)
  have loop6 : ∀ (n6 : Nat) (a : Int) (sm : Int) (H : Heap) (locs : List Loc) (ls : Array Slot), (200 - a) < (n6 : Int) → (0 ≤ a ∧ a ≤ 200) → (sm = sumZ (wt T ty (k - 1) node) a) → ZH D A s.heap (wX ad cI cB T C O) H locs → lv_has ls 7 [(0, .ref (ad 0)), (1, .int (zI node)), (2, .int (zI k)), (3, .int (zI ty)), (4, .int (zI sm)), (5, .int (zI a))] → W p l e ({ frames := 2, cells := 0, slots := 0, locals := 51 } : Room) s m args below meth c H locs 0 0 Q (F0 m 6 ls []) := by
    intro n6
    induction n6 with
    | zero =>
      intro a sm H locs ls hm6 ha hs h hl
      exfalso; omega
    | succ n6 ih6 =>
      intro a sm H locs ls hm6 ha hs h hl
      refine z_iload E dX0_countFrom_6 hl 5 rfl ?_
      refine z_sipush E dX0_countFrom_8 (by decide +kernel) ?_
      refine z_icmp_ge E 55 dX0_countFrom_11 (by decide) (by omega) (fun c1 => ?_) (fun c1 => ?_)
      · have c1 : (200 : Int) ≤ (a : Int) := c1
        refine z_iload E dX0_countFrom_55 hl 4 rfl ?_
        exact ret () dX0_countFrom_57 rfl (by rw [show (200 : Int) = a by omega]; exact hs) h
      · have c1 : (a : Int) < (200 : Int) := c1
        refine z_aload_n E dX0_countFrom_14 hl 0 rfl ?_
        refine z_iload_n E dX0_countFrom_15 hl 1 rfl ?_
        refine z_iload E dX0_countFrom_16 hl 5 rfl ?_
        refine z_iload_n E dX0_countFrom_18 hl 3 rfl ?_
        refine z_call (n := 3) (rest := []) E h (mX_step l D ad cI cB T C O node a ty hT hC hL (by omega) (by omega) (by omega)) q170 q172 qs13 q33 q173 (by decide +kernel) ⟨Nat.le_of_ble_eq_true rfl, Nat.le_of_ble_eq_true rfl⟩ ⟨Nat.le_refl _, Nat.le_refl _⟩ rfl rfl rfl hl.1 (Nat.le_of_ble_eq_true rfl) rfl dX0_countFrom_19 (fun r1 ur1 H locs er1 h => ?_)
        have br1 := stp_bd hT (ty := ty) (a := a) (show 0 ≤ node ∧ node < 343 by omega)
        have h : ZH D A s.heap (wX ad cI cB T C O) H locs := h
        refine z_istore E [(0, .ref (ad 0)), (1, .int (zI node)), (2, .int (zI k)), (3, .int (zI ty)), (4, .int (zI sm)), (5, .int (zI a)), (6, .int (zI r1))] dX0_countFrom_22 hl (by decide) [1, 2, 3, 4, 5, 6, 0] rfl (fun ls hl => ?_)
        refine z_iload E dX0_countFrom_24 hl 6 rfl ?_
        refine z_if_lt E 49 dX0_countFrom_26 (by decide) (by omega) (fun c2 => ?_) (fun c2 => ?_)
        · have c2 : (r1 : Int) < (0 : Int) := c2
          refine z_iinc E [(0, .ref (ad 0)), (1, .int (zI node)), (2, .int (zI k)), (3, .int (zI ty)), (4, .int (zI sm)), (5, .int (zI (a + 1))), (6, .int (zI r1))] dX0_countFrom_49 hl 5 rfl (by decide) [1, 2, 3, 4, 5, 0, 6] rfl (fun ls hl => ?_)
          refine z_goto E 6 dX0_countFrom_52 (by decide) ?_
          exact ih6 (a + 1) sm _ _ _ (by omega) (by omega) (by rw [sumZ_s _ (by omega), ← hs]; unfold wt; rw [← er1, if_neg (by omega)]; omega) h (lv_sub hl [0, 1, 2, 3, 4, 5] rfl)
        · have c2 : (0 : Int) ≤ (r1 : Int) := c2
          refine z_iload E dX0_countFrom_29 hl 4 rfl ?_
          refine z_aload_n E dX0_countFrom_31 hl 0 rfl ?_
          refine gX_wy E h dX0_countFrom_32 ?_
          refine z_iload_n E dX0_countFrom_35 hl 2 rfl ?_
          refine z_iconst E dX0_countFrom_36 ?_
          refine z_isub E dX0_countFrom_37 ?_
          refine z_sipush E dX0_countFrom_38 (by decide +kernel) ?_
          refine z_imul E dX0_countFrom_41 ?_
          refine z_iload E dX0_countFrom_42 hl 6 rfl ?_
          refine z_iadd E dX0_countFrom_44 ?_
          refine lX_wy E h (by omega) dX0_countFrom_45 (fun x1 ex1 => ?_)
          have ex1 : x1 = C.2.2.2.1 (((k - 1) * 343) + r1) := ex1
          have b1 := hC.2.2.2.1 (((k - 1) * 343) + r1)
          refine z_iadd E dX0_countFrom_46 ?_
          refine z_istore E [(0, .ref (ad 0)), (1, .int (zI node)), (2, .int (zI k)), (3, .int (zI ty)), (4, .int (zI (sm + x1))), (5, .int (zI a)), (6, .int (zI r1))] dX0_countFrom_47 hl (by decide) [1, 2, 3, 4, 0, 5, 6] rfl (fun ls hl => ?_)
          refine z_iinc E [(0, .ref (ad 0)), (1, .int (zI node)), (2, .int (zI k)), (3, .int (zI ty)), (4, .int (zI (sm + x1))), (5, .int (zI (a + 1))), (6, .int (zI r1))] dX0_countFrom_49 hl 5 rfl (by decide) [1, 2, 3, 4, 5, 0, 6] rfl (fun ls hl => ?_)
          refine z_goto E 6 dX0_countFrom_52 (by decide) ?_
          exact ih6 (a + 1) (sm + x1) _ _ _ (by omega) (by omega) (by rw [sumZ_s _ (by omega), ← hs]; unfold wt; rw [← er1, if_pos (by omega), ex1, hW _ (by omega) (by omega)]) h (lv_sub hl [0, 1, 2, 3, 4, 5] rfl)
  exact loop6 1000 0 0 _ _ _ (by omega) (by omega) ((sumZ_0 _).symm) h (lv_sub hl [0, 1, 2, 3, 4, 5] rfl)
set_option maxHeartbeats 4000000 in
set_option maxRecDepth 100000 in
theorem mX_count (l : Launch) (D : va_G) (ad : Nat → Nat) (cI cB : ClassId) (T : TT) (C : CC) (O : OO) (ty : Int) (hT : TOk T) (hI : CInv T C) (hty : ty = 0 ∨ ty = 2) : MV l D [(cI, .int), (cB, .byte)] yX0_count cX0_count 6 5 123 [.ref (ad 0), .int (zI ty)] (wX ad cI cB T C O) (fun u : CC => CInv T u ∧ LRt T u.1 ty ∧ WR T u.2.2.2.1 ty) (fun u => wX ad cI cB T u O) := by
  refine MV.of RX0 (by decide) rfl (Nat.le_of_ble_eq_true rfl) [(0, .ref (ad 0)), (1, .int (zI ty))] rfl ?_
  intro p e s m args below meth c A Q E ret ls h hl
  have hC := hI.1
  have join55 : ∀ (ld : FF) (qr : Int) (H : Heap) (locs : List Loc) (ls : Array Slot), (∀ j, -1 ≤ ld j ∧ ld j ≤ 6) → (LRt T ld ty) → (qr = 0 ∨ qr = 1) → (qr = 1 → LRp T ld 2) → ZH D A s.heap (wX ad cI cB T (ld, 1, qr, C.2.2.2.1, C.2.2.2.2) O) H locs → lv_has ls 6 [(0, .ref (ad 0)), (1, .int (zI ty))] → W p l e ({ frames := 5, cells := 0, slots := 0, locals := 123 } : Room) s m args below meth c H locs 0 0 Q (F0 m 55 ls []) := by
    intro ld qr H locs ls hb hL5 hq1 hq2 h hl
    refine z_aload_n E dX0_count_55 hl 0 rfl ?_
    refine gX_wf (wf := C.2.2.2.2) E h dX0_count_56 ?_
    have b1 := hC.2.2.2.2
    refine z_iload_n E dX0_count_59 hl 1 rfl ?_
    refine z_icmp_ne E 64 dX0_count_60 (by decide) (by omega) (fun c1 => ?_) (fun c1 => ?_)
    · have c1 : (C.2.2.2.2 : Int) ≠ (ty : Int) := c1
      refine z_aload_n E dX0_count_64 hl 0 rfl ?_
      refine z_iload_n E dX0_count_65 hl 1 rfl ?_
      refine pX_wf E h dX0_count_66 (fun H locs h => ?_)
      have h : ZH D A s.heap (wX ad cI cB T (ld, 1, qr, C.2.2.2.1, ty) O) H locs := h
      refine z_aload_n E dX0_count_69 hl 0 rfl ?_
      refine z_iload_n E dX0_count_70 hl 1 rfl ?_
      refine z_call (n := 1) (rest := []) E h (mX_lastNode l D ad cI cB T (ld, 1, qr, C.2.2.2.1, ty) O ty hT (by omega)) q158 q160 qs10 q33 q161 (by decide +kernel) ⟨Nat.le_of_ble_eq_true rfl, Nat.le_of_ble_eq_true rfl⟩ ⟨Nat.le_refl _, Nat.le_refl _⟩ rfl rfl rfl hl.1 (Nat.le_of_ble_eq_true rfl) rfl dX0_count_71 (fun r1 ur1 H locs er1 h => ?_)
      have br1 := lst_bd hT (ty := ty)
      have h : ZH D A s.heap (wX ad cI cB T (ld, 1, qr, C.2.2.2.1, ty) O) H locs := h
      refine z_istore_n E [(0, .ref (ad 0)), (1, .int (zI ty)), (2, .int (zI r1))] dX0_count_74 hl (by decide) [1, 2, 0] rfl (fun ls hl => ?_)
      refine z_iconst E dX0_count_75 ?_
      refine z_istore_n E [(0, .ref (ad 0)), (1, .int (zI ty)), (2, .int (zI r1)), (3, .int (zI 0))] dX0_count_76 hl (by decide) [1, 2, 3, 0] rfl (fun ls hl => ?_)
      have loop77 : ∀ (n77 : Nat) (nd : Int) (wy : FF) (H : Heap) (locs : List Loc) (ls : Array Slot), (343 - nd) < (n77 : Int) → (0 ≤ nd ∧ nd ≤ 343) → (∀ v, 0 ≤ v → v < nd → wy v = wz T ty 0 v) → (∀ j, 0 ≤ wy j ∧ wy j ≤ 8000000) → ZH D A s.heap (wX ad cI cB T (ld, 1, qr, wy, ty) O) H locs → lv_has ls 6 [(0, .ref (ad 0)), (1, .int (zI ty)), (2, .int (zI r1)), (3, .int (zI nd))] → W p l e ({ frames := 5, cells := 0, slots := 0, locals := 123 } : Room) s m args below meth c H locs 0 0 Q (F0 m 77 ls []) := by
        intro n77
        induction n77 with
        | zero =>
          intro nd wy H locs ls hm77 hn hw hwb h hl
          exfalso; omega
        | succ n77 ih77 =>
          intro nd wy H locs ls hm77 hn hw hwb h hl
          refine z_iload_n E dX0_count_77 hl 3 rfl ?_
          refine z_sipush E dX0_count_78 (by decide +kernel) ?_
          refine z_icmp_ge E 106 dX0_count_81 (by decide) (by omega) (fun c2 => ?_) (fun c2 => ?_)
          · have c2 : (343 : Int) ≤ (nd : Int) := c2
            refine z_iconst E dX0_count_106 ?_
            refine z_istore_n E [(0, .ref (ad 0)), (1, .int (zI ty)), (2, .int (zI r1)), (3, .int (zI 1))] dX0_count_107 hl (by decide) [1, 2, 3, 0] rfl (fun ls hl => ?_)
            have loop108 : ∀ (n108 : Nat) (k : Int) (wy : FF) (H : Heap) (locs : List Loc) (ls : Array Slot), (4 - k) < (n108 : Int) → (1 ≤ k ∧ k ≤ 4) → (∀ q v, 0 ≤ q → q < k → 0 ≤ v → v < 343 → wy (q * 343 + v) = wz T ty q v) → (∀ j, 0 ≤ wy j ∧ wy j ≤ 8000000) → ZH D A s.heap (wX ad cI cB T (ld, 1, qr, wy, ty) O) H locs → lv_has ls 6 [(0, .ref (ad 0)), (1, .int (zI ty)), (2, .int (zI r1)), (3, .int (zI k))] → W p l e ({ frames := 5, cells := 0, slots := 0, locals := 123 } : Room) s m args below meth c H locs 0 0 Q (F0 m 108 ls []) := by
              intro n108
              induction n108 with
              | zero =>
                intro k wy H locs ls hm108 hk hw hwb h hl
                exfalso; omega
              | succ n108 ih108 =>
                intro k wy H locs ls hm108 hk hw hwb h hl
                refine z_iload_n E dX0_count_108 hl 3 rfl ?_
                refine z_iconst E dX0_count_109 ?_
                refine z_icmp_gt E 175 dX0_count_110 (by decide) (by omega) (fun c3 => ?_) (fun c3 => ?_)
                · have c3 : (3 : Int) < (k : Int) := c3
                  exact ret (ld, 1, qr, wy, ty) dX0_count_175 (⟨CInv_new hT hty hb hL5 hq1 hq2 hwb (fun q v a b c d => hw q v a (by omega) c d), hL5, fun q v a b c d => hw q v a (by omega) c d⟩) h
                · have c3 : (k : Int) ≤ (3 : Int) := c3
                  refine z_iconst E dX0_count_113 ?_
                  refine z_istore E [(0, .ref (ad 0)), (1, .int (zI ty)), (2, .int (zI r1)), (3, .int (zI k)), (4, .int (zI 0))] dX0_count_114 hl (by decide) [1, 2, 3, 4, 0] rfl (fun ls hl => ?_)
                  have loop116 : ∀ (n116 : Nat) (nd : Int) (wy : FF) (H : Heap) (locs : List Loc) (ls : Array Slot), (343 - nd) < (n116 : Int) → (0 ≤ nd ∧ nd ≤ 343) → (∀ q v, 0 ≤ q → q < k → 0 ≤ v → v < 343 → wy (q * 343 + v) = wz T ty q v) → (∀ v, 0 ≤ v → v < nd → wy (k * 343 + v) = wz T ty k v) → (∀ j, 0 ≤ wy j ∧ wy j ≤ 8000000) → ZH D A s.heap (wX ad cI cB T (ld, 1, qr, wy, ty) O) H locs → lv_has ls 6 [(0, .ref (ad 0)), (1, .int (zI ty)), (2, .int (zI r1)), (3, .int (zI k)), (4, .int (zI nd))] → W p l e ({ frames := 5, cells := 0, slots := 0, locals := 123 } : Room) s m args below meth c H locs 0 0 Q (F0 m 116 ls []) := by
                    intro n116
                    induction n116 with
                    | zero =>
                      intro nd wy H locs ls hm116 hn hw2 hx hwb2 h hl
                      exfalso; omega
                    | succ n116 ih116 =>
                      intro nd wy H locs ls hm116 hn hw2 hx hwb2 h hl
                      refine z_iload E dX0_count_116 hl 4 rfl ?_
                      refine z_sipush E dX0_count_118 (by decide +kernel) ?_
                      refine z_icmp_ge E 169 dX0_count_121 (by decide) (by omega) (fun c4 => ?_) (fun c4 => ?_)
                      · have c4 : (343 : Int) ≤ (nd : Int) := c4
                        refine z_iinc E [(0, .ref (ad 0)), (1, .int (zI ty)), (2, .int (zI r1)), (3, .int (zI (k + 1))), (4, .int (zI nd))] dX0_count_169 hl 3 rfl (by decide) [1, 2, 3, 0, 4] rfl (fun ls hl => ?_)
                        refine z_goto E 108 dX0_count_172 (by decide) ?_
                        exact ih108 (k + 1) wy _ _ _ (by omega) (by omega) (fun q v a b c d => by
            by_cases e : q = k
            · rw [e]; exact hx v c (by omega)
            · exact hw2 q v a (by omega) c d) (hwb2) h (lv_sub hl [0, 1, 2, 3] rfl)
                      · have c4 : (nd : Int) < (343 : Int) := c4
                        refine z_aload_n E dX0_count_124 hl 0 rfl ?_
                        refine z_iload E dX0_count_125 hl 4 rfl ?_
                        refine z_iload_n E dX0_count_127 hl 2 rfl ?_
                        refine z_call (n := 2) (rest := []) E h (mX_exists l D ad cI cB T (ld, 1, qr, wy, ty) O nd r1 (by omega) (by omega)) q162 q164 qs11 q33 q165 (by decide +kernel) ⟨Nat.le_of_ble_eq_true rfl, Nat.le_of_ble_eq_true rfl⟩ ⟨Nat.le_refl _, Nat.le_refl _⟩ rfl rfl rfl hl.1 (Nat.le_of_ble_eq_true rfl) rfl dX0_count_128 (fun r2 ur2 H locs er2 h => ?_)
                        have h : ZH D A s.heap (wX ad cI cB T (ld, 1, qr, wy, ty) O) H locs := h
                        refine z_istore E [(0, .ref (ad 0)), (1, .int (zI ty)), (2, .int (zI r1)), (3, .int (zI k)), (4, .int (zI nd)), (5, .int (zI r2))] dX0_count_131 hl (by decide) [1, 2, 3, 4, 5, 0] rfl (fun ls hl => ?_)
                        refine z_aload_n E dX0_count_133 hl 0 rfl ?_
                        refine gX_wy E h dX0_count_134 ?_
                        refine z_iload_n E dX0_count_137 hl 3 rfl ?_
                        refine z_sipush E dX0_count_138 (by decide +kernel) ?_
                        refine z_imul E dX0_count_141 ?_
                        refine z_iload E dX0_count_142 hl 4 rfl ?_
                        refine z_iadd E dX0_count_144 ?_
                        refine z_iload E dX0_count_145 hl 5 rfl ?_
                        refine z_if_eq E 161 dX0_count_147 (by decide) (by omega) (fun c5 => ?_) (fun c5 => ?_)
                        · have c5 : (r2 : Int) = (0 : Int) := c5
                          refine z_iconst E dX0_count_161 ?_
                          refine sX_wy E h (by omega) dX0_count_162 (fun H locs h => ?_)
                          have h : ZH D A s.heap (wX ad cI cB T (ld, 1, qr, up wy ((k * 343) + nd) 0, ty) O) H locs := h
                          refine z_iinc E [(0, .ref (ad 0)), (1, .int (zI ty)), (2, .int (zI r1)), (3, .int (zI k)), (4, .int (zI (nd + 1))), (5, .int (zI r2))] dX0_count_163 hl 4 rfl (by decide) [1, 2, 3, 4, 0, 5] rfl (fun ls hl => ?_)
                          refine z_goto E 116 dX0_count_166 (by decide) ?_
                          exact ih116 (nd + 1) (up wy ((k * 343) + nd) 0) _ _ _ (by omega) (by omega) (fun q v a b c d => by
              rw [up_n (by omega)]; exact hw2 q v a b c d) (fun v a b => by
              by_cases e : v = nd
              · rw [e, up_s, wz_k _ _ _ (by omega), if_neg (fun q => by rw [← er1] at q; have := er2.2.mpr q; omega)]
              · rw [up_n (by omega)]; exact hx v a (by omega)) (up_bd hwb2 (by omega)) h (lv_sub hl [0, 1, 2, 3, 4] rfl)
                        · have c5 : (r2 : Int) ≠ (0 : Int) := c5
                          refine z_aload_n E dX0_count_150 hl 0 rfl ?_
                          refine z_iload E dX0_count_151 hl 4 rfl ?_
                          refine z_iload_n E dX0_count_153 hl 3 rfl ?_
                          refine z_iload_n E dX0_count_154 hl 1 rfl ?_
                          refine z_call (n := 3) (rest := [.int (zI ((k * 343) + nd)), .ref (ad 6)]) E h (mX_countFrom l D ad cI cB T (ld, 1, qr, wy, ty) O nd k ty hT (⟨hb, Or.inr rfl, hq1, hwb2, by show -1 ≤ ty ∧ ty ≤ 2; omega⟩) hL5 (by omega) (by omega) (by omega) (fun v a b => hw2 (k - 1) v (by omega) (by omega) a b)) q166 q168 qs12 q33 q169 (by decide +kernel) ⟨Nat.le_of_ble_eq_true rfl, Nat.le_of_ble_eq_true rfl⟩ ⟨Nat.le_refl _, Nat.le_refl _⟩ rfl rfl rfl hl.1 (Nat.le_of_ble_eq_true rfl) rfl dX0_count_155 (fun r3 ur3 H locs er3 h => ?_)
                          have h : ZH D A s.heap (wX ad cI cB T (ld, 1, qr, wy, ty) O) H locs := h
                          refine z_goto E 162 dX0_count_158 (by decide) ?_
                          refine sX_wy E h (by omega) dX0_count_162 (fun H locs h => ?_)
                          have h : ZH D A s.heap (wX ad cI cB T (ld, 1, qr, up wy ((k * 343) + nd) r3, ty) O) H locs := h
                          refine z_iinc E [(0, .ref (ad 0)), (1, .int (zI ty)), (2, .int (zI r1)), (3, .int (zI k)), (4, .int (zI (nd + 1))), (5, .int (zI r2))] dX0_count_163 hl 4 rfl (by decide) [1, 2, 3, 4, 0, 5] rfl (fun ls hl => ?_)
                          refine z_goto E 116 dX0_count_166 (by decide) ?_
                          exact ih116 (nd + 1) (up wy ((k * 343) + nd) r3) _ _ _ (by omega) (by omega) (fun q v a b c d => by
              rw [up_n (by omega)]; exact hw2 q v a b c d) (fun v a b => by
              by_cases e : v = nd
              · rw [e, up_s, er3, wz_k _ _ _ (by omega), if_pos (by rw [← er1]; exact er2.2.mp (by omega))]
              · rw [up_n (by omega)]; exact hx v a (by omega)) (up_bd hwb2 (by have := wz_bd T ty nd (show 0 ≤ k ∧ k ≤ 3 by omega); rw [wz_k _ _ _ (by omega), if_pos (by rw [← er1]; exact er2.2.mp (by omega)), ← er3] at this; exact this)) h (lv_sub hl [0, 1, 2, 3, 4] rfl)
                  exact loop116 1000 0 wy _ _ _ (by omega) (by omega) (hw) (fun v a b => by omega) (hwb) h (lv_sub hl [0, 1, 2, 3, 4] rfl)
            exact loop108 10 1 wy _ _ _ (by omega) (by omega) (fun q v a b c d => by
          obtain rfl : q = 0 := by omega
          rw [Int.zero_mul, Int.zero_add]; exact hw v c (by omega)) (hwb) h (lv_sub hl [0, 1, 2, 3] rfl)
          · have c2 : (nd : Int) < (343 : Int) := c2
            refine z_aload_n E dX0_count_84 hl 0 rfl ?_
            refine gX_wy E h dX0_count_85 ?_
            refine z_iload_n E dX0_count_88 hl 3 rfl ?_
            refine z_iload_n E dX0_count_89 hl 3 rfl ?_
            refine z_iload_n E dX0_count_90 hl 2 rfl ?_
            refine z_icmp_ne E 98 dX0_count_91 (by decide) (by omega) (fun c3 => ?_) (fun c3 => ?_)
            · have c3 : (nd : Int) ≠ (r1 : Int) := c3
              refine z_iconst E dX0_count_98 ?_
              refine sX_wy E h (by omega) dX0_count_99 (fun H locs h => ?_)
              have h : ZH D A s.heap (wX ad cI cB T (ld, 1, qr, up wy nd 0, ty) O) H locs := h
              refine z_iinc E [(0, .ref (ad 0)), (1, .int (zI ty)), (2, .int (zI r1)), (3, .int (zI (nd + 1)))] dX0_count_100 hl 3 rfl (by decide) [1, 2, 3, 0] rfl (fun ls hl => ?_)
              refine z_goto E 77 dX0_count_103 (by decide) ?_
              exact ih77 (nd + 1) (up wy nd 0) _ _ _ (by omega) (by omega) (up_ext hw (by rw [wz_0, if_neg (by omega)])) (up_bd hwb (by omega)) h (lv_sub hl [0, 1, 2, 3] rfl)
            · have c3 : (nd : Int) = (r1 : Int) := c3
              refine z_iconst E dX0_count_94 ?_
              refine z_goto E 99 dX0_count_95 (by decide) ?_
              refine sX_wy E h (by omega) dX0_count_99 (fun H locs h => ?_)
              have h : ZH D A s.heap (wX ad cI cB T (ld, 1, qr, up wy nd 1, ty) O) H locs := h
              refine z_iinc E [(0, .ref (ad 0)), (1, .int (zI ty)), (2, .int (zI r1)), (3, .int (zI (nd + 1)))] dX0_count_100 hl 3 rfl (by decide) [1, 2, 3, 0] rfl (fun ls hl => ?_)
              refine z_goto E 77 dX0_count_103 (by decide) ?_
              exact ih77 (nd + 1) (up wy nd 1) _ _ _ (by omega) (by omega) (up_ext hw (by rw [wz_0, if_pos (by omega)])) (up_bd hwb (by omega)) h (lv_sub hl [0, 1, 2, 3] rfl)
      exact loop77 1000 0 C.2.2.2.1 _ _ _ (by omega) (by omega) (fun v a b => by omega) (hC.2.2.2.1) h (lv_sub hl [0, 1, 2, 3] rfl)
    · have c1 : (C.2.2.2.2 : Int) = (ty : Int) := c1
      exact ret (ld, 1, qr, C.2.2.2.1, C.2.2.2.2) dX0_count_63 (⟨CInv_mk hT hI hb hL5 hq1 hq2, hL5, WR_of (C := C) hI (by omega) hty⟩) h
  have join33 : ∀ (ld : FF) (H : Heap) (locs : List Loc) (ls : Array Slot), (∀ j, -1 ≤ ld j ∧ ld j ≤ 6) → (∀ pr, 0 ≤ pr → pr < T.1 → LRp T ld pr) → (C.2.2.1 = 1 → LRp T ld 2) → ZH D A s.heap (wX ad cI cB T (ld, 1, C.2.2.1, C.2.2.2.1, C.2.2.2.2) O) H locs → lv_has ls 6 [(0, .ref (ad 0)), (1, .int (zI ty))] → W p l e ({ frames := 5, cells := 0, slots := 0, locals := 123 } : Room) s m args below meth c H locs 0 0 Q (F0 m 33 ls []) := by
    intro ld H locs ls hb hp hq2 h hl
    refine z_iload_n E dX0_count_33 hl 1 rfl ?_
    refine z_iconst E dX0_count_34 ?_
    refine z_icmp_ne E 55 dX0_count_35 (by decide) (by omega) (fun c1 => ?_) (fun c1 => ?_)
    · have c1 : (ty : Int) ≠ (2 : Int) := c1
      exact join55 ld C.2.2.1 _ _ _ (hb) (fun pr a b c => hp pr a (by omega)) (hC.2.2.1) (hq2) h (lv_sub hl [0, 1] rfl)
    · have c1 : (ty : Int) = (2 : Int) := c1
      refine z_aload_n E dX0_count_38 hl 0 rfl ?_
      refine gX_qr (qr := C.2.2.1) E h dX0_count_39 ?_
      have b1 := hC.2.2.1
      refine z_if_ne E 55 dX0_count_42 (by decide) (by omega) (fun c2 => ?_) (fun c2 => ?_)
      · have c2 : (C.2.2.1 : Int) ≠ (0 : Int) := c2
        exact join55 ld C.2.2.1 _ _ _ (hb) (fun pr a b c => by
          rcases c with c | c
          · exact hp pr a c
          · rw [c.1]; exact hq2 (by omega)) (hC.2.2.1) (hq2) h (lv_sub hl [0, 1] rfl)
      · have c2 : (C.2.2.1 : Int) = (0 : Int) := c2
        refine z_aload_n E dX0_count_45 hl 0 rfl ?_
        refine z_iconst E dX0_count_46 ?_
        refine z_callv (n := 1) (rest := []) E h (mX_followAll l D ad cI cB T (ld, 1, C.2.2.1, C.2.2.2.1, C.2.2.2.2) O 2 hT (by omega)) q128 q130 qs4 q33 q131 (by decide +kernel) ⟨Nat.le_of_ble_eq_true rfl, Nat.le_of_ble_eq_true rfl⟩ ⟨Nat.le_refl _, Nat.le_refl _⟩ rfl rfl rfl hl.1 (Nat.le_of_ble_eq_true rfl) rfl dX0_count_47 (fun ur1 H locs er1 h => ?_)
        have h : ZH D A s.heap (wX ad cI cB T (gA T ld 2 200, 1, C.2.2.1, C.2.2.2.1, C.2.2.2.2) O) H locs := h
        refine z_aload_n E dX0_count_50 hl 0 rfl ?_
        refine z_iconst E dX0_count_51 ?_
        refine pX_qr E h (by omega) dX0_count_52 (fun H locs h => ?_)
        have h : ZH D A s.heap (wX ad cI cB T (gA T ld 2 200, 1, 1, C.2.2.2.1, C.2.2.2.2) O) H locs := h
        exact join55 (gA T ld 2 200) 1 _ _ _ (gA_bd hT hb) (fun pr a b c => by
          by_cases q : pr = 2
          · rw [q]; exact gA_LR (by omega)
          · exact gA_off (by omega) (hp pr a (by omega))) (Or.inr rfl) (fun _ => gA_LR (by omega)) h (lv_sub hl [0, 1] rfl)
  refine z_aload_n E dX0_count_0 hl 0 rfl ?_
  refine gX_lr (lr := C.2.1) E h dX0_count_1 ?_
  have b2 := hC.2.1
  refine z_if_ne E 33 dX0_count_4 (by decide) (by omega) (fun c3 => ?_) (fun c3 => ?_)
  · have c3 : (C.2.1 : Int) ≠ (0 : Int) := c3
    have hlr : C.2.1 = 1 := by omega
    have h := ZH_lr hlr h
    exact join33 C.1 _ _ _ (hC.1) (hI.2.1 hlr) (hI.2.2.1) h (lv_sub hl [0, 1] rfl)
  · have c3 : (C.2.1 : Int) = (0 : Int) := c3
    refine z_iconst E dX0_count_7 ?_
    refine z_istore_n E [(0, .ref (ad 0)), (1, .int (zI ty)), (2, .int (zI 0))] dX0_count_8 hl (by decide) [1, 2, 0] rfl (fun ls hl => ?_)
    have bT := hT.1
    have loop9 : ∀ (n9 : Nat) (ee : Int) (ld : FF) (H : Heap) (locs : List Loc) (ls : Array Slot), (T.1 - ee) < (n9 : Int) → (0 ≤ ee ∧ ee ≤ T.1) → (∀ j, -1 ≤ ld j ∧ ld j ≤ 6) → (∀ pr, 0 ≤ pr → pr < ee → LRp T ld pr) → (C.2.2.1 = 1 → LRp T ld 2) → ZH D A s.heap (wX ad cI cB T (ld, C.2.1, C.2.2.1, C.2.2.2.1, C.2.2.2.2) O) H locs → lv_has ls 6 [(0, .ref (ad 0)), (1, .int (zI ty)), (2, .int (zI ee))] → W p l e ({ frames := 5, cells := 0, slots := 0, locals := 123 } : Room) s m args below meth c H locs 0 0 Q (F0 m 9 ls []) := by
      intro n9
      induction n9 with
      | zero =>
        intro ee ld H locs ls hm9 he hb hp hq2 h hl
        exfalso; omega
      | succ n9 ih9 =>
        intro ee ld H locs ls hm9 he hb hp hq2 h hl
        refine z_iload_n E dX0_count_9 hl 2 rfl ?_
        refine z_aload_n E dX0_count_10 hl 0 rfl ?_
        refine gX_ex (ex := T.1) E h dX0_count_11 ?_
        have b1 := hT.1
        refine z_icmp_ge E 28 dX0_count_14 (by decide) (by omega) (fun c1 => ?_) (fun c1 => ?_)
        · have c1 : (T.1 : Int) ≤ (ee : Int) := c1
          refine z_aload_n E dX0_count_28 hl 0 rfl ?_
          refine z_iconst E dX0_count_29 ?_
          refine pX_lr E h (by omega) dX0_count_30 (fun H locs h => ?_)
          have h : ZH D A s.heap (wX ad cI cB T (ld, 1, C.2.2.1, C.2.2.2.1, C.2.2.2.2) O) H locs := h
          exact join33 ld _ _ _ (hb) (fun pr a b => hp pr a (by omega)) (hq2) h (lv_sub hl [0, 1] rfl)
        · have c1 : (ee : Int) < (T.1 : Int) := c1
          refine z_aload_n E dX0_count_17 hl 0 rfl ?_
          refine z_iload_n E dX0_count_18 hl 2 rfl ?_
          refine z_callv (n := 1) (rest := []) E h (mX_followAll l D ad cI cB T (ld, C.2.1, C.2.2.1, C.2.2.2.1, C.2.2.2.2) O ee hT (by omega)) q128 q130 qs4 q33 q131 (by decide +kernel) ⟨Nat.le_of_ble_eq_true rfl, Nat.le_of_ble_eq_true rfl⟩ ⟨Nat.le_refl _, Nat.le_refl _⟩ rfl rfl rfl hl.1 (Nat.le_of_ble_eq_true rfl) rfl dX0_count_19 (fun ur1 H locs er1 h => ?_)
          have h : ZH D A s.heap (wX ad cI cB T (gA T ld ee 200, C.2.1, C.2.2.1, C.2.2.2.1, C.2.2.2.2) O) H locs := h
          refine z_iinc E [(0, .ref (ad 0)), (1, .int (zI ty)), (2, .int (zI (ee + 1)))] dX0_count_22 hl 2 rfl (by decide) [1, 2, 0] rfl (fun ls hl => ?_)
          refine z_goto E 9 dX0_count_25 (by decide) ?_
          exact ih9 (ee + 1) (gA T ld ee 200) _ _ _ (by omega) (by omega) (gA_bd hT hb) (fun pr a b => by
            by_cases q : pr = ee
            · rw [q]; exact gA_LR (by omega)
            · exact gA_off (by omega) (hp pr a (by omega))) (fun q => gA_off (by omega) (hq2 q)) h (lv_sub hl [0, 1, 2] rfl)
    exact loop9 10 0 C.1 _ _ _ (by omega) (by omega) (hC.1) (fun pr a b => by omega) (hI.2.2.1) h (lv_sub hl [0, 1, 2] rfl)
set_option maxHeartbeats 4000000 in
set_option maxRecDepth 100000 in
theorem mX_leastCount (l : Launch) (D : va_G) (ad : Nat → Nat) (cI cB : ClassId) (T : TT) (C : CC) (O : OO) (hT : TOk T) (hI : CInv T C) : MI l D [(cI, .int), (cB, .byte)] yX0_leastCount cX0_leastCount 2 .int 6 148 [.ref (ad 0)] (wX ad cI cB T C O) (fun z (u : CC) => z = lc T ∧ CInv T u ∧ LRt T u.1 0 ∧ WR T u.2.2.2.1 0) (fun u => wX ad cI cB T u O) := by
  refine MI.of RX0 (by decide) rfl (Nat.le_of_ble_eq_true rfl) [(0, .ref (ad 0))] rfl ?_
  intro p e s m args below meth c A Q E ret ls h hl
  have hC := hI.1
  refine z_aload_n E dX0_leastCount_0 hl 0 rfl ?_
  refine z_iconst E dX0_leastCount_1 ?_
  refine z_callv (n := 1) (rest := []) E h (mX_count l D ad cI cB T C O 0 hT hI (by omega)) q124 q126 qs3 q33 q127 (by decide +kernel) ⟨Nat.le_of_ble_eq_true rfl, Nat.le_of_ble_eq_true rfl⟩ ⟨Nat.le_refl _, Nat.le_refl _⟩ rfl rfl rfl hl.1 (Nat.le_of_ble_eq_true rfl) rfl dX0_leastCount_2 (fun ur1 H locs er1 h => ?_)
  obtain ⟨hIr1, hLr1, hWr1⟩ := er1
  have hCr1 := hIr1.1
  have h : ZH D A s.heap (wX ad cI cB T ur1 O) H locs := h
  refine z_iconst E dX0_leastCount_5 ?_
  refine z_istore_n E [(0, .ref (ad 0)), (1, .int (zI 1))] dX0_leastCount_6 hl (by decide) [1, 0] rfl (fun ls hl => ?_)
  have loop7 : ∀ (n7 : Nat) (k : Int) (H : Heap) (locs : List Loc) (ls : Array Slot), (4 - k) < (n7 : Int) → (1 ≤ k ∧ k ≤ 4) → (∀ j, 1 ≤ j → j < k → ¬ 0 < wz T 0 j 0) → ZH D A s.heap (wX ad cI cB T ur1 O) H locs → lv_has ls 2 [(0, .ref (ad 0)), (1, .int (zI k))] → W p l e ({ frames := 6, cells := 0, slots := 0, locals := 148 } : Room) s m args below meth c H locs 0 0 Q (F0 m 7 ls []) := by
    intro n7
    induction n7 with
    | zero =>
      intro k H locs ls hm7 hk ha h hl
      exfalso; omega
    | succ n7 ih7 =>
      intro k H locs ls hm7 hk ha h hl
      refine z_iload_n E dX0_leastCount_7 hl 1 rfl ?_
      refine z_iconst E dX0_leastCount_8 ?_
      refine z_icmp_gt E 33 dX0_leastCount_9 (by decide) (by omega) (fun c1 => ?_) (fun c1 => ?_)
      · have c1 : (3 : Int) < (k : Int) := c1
        refine z_iconst E dX0_leastCount_33 ?_
        exact ret ur1 dX0_leastCount_34 rfl (⟨lc_0 (fun j a b => ha j a (by omega)), hIr1, hLr1, hWr1⟩) h
      · have c1 : (k : Int) ≤ (3 : Int) := c1
        refine z_aload_n E dX0_leastCount_12 hl 0 rfl ?_
        refine gX_wy E h dX0_leastCount_13 ?_
        refine z_iload_n E dX0_leastCount_16 hl 1 rfl ?_
        refine z_sipush E dX0_leastCount_17 (by decide +kernel) ?_
        refine z_imul E dX0_leastCount_20 ?_
        refine lX_wy E h (by omega) dX0_leastCount_21 (fun x1 ex1 => ?_)
        have ex1 : x1 = ur1.2.2.2.1 (k * 343) := ex1
        have b1 := hCr1.2.2.2.1 (k * 343)
        have hz := hWr1 k 0 (by omega) (by omega) (by omega) (by omega)
        rw [Int.add_zero, ← ex1] at hz
        refine z_if_le E 27 dX0_leastCount_22 (by decide) (by omega) (fun c2 => ?_) (fun c2 => ?_)
        · have c2 : (x1 : Int) ≤ (0 : Int) := c2
          refine z_iinc E [(0, .ref (ad 0)), (1, .int (zI (k + 1)))] dX0_leastCount_27 hl 1 rfl (by decide) [1, 0] rfl (fun ls hl => ?_)
          refine z_goto E 7 dX0_leastCount_30 (by decide) ?_
          exact ih7 (k + 1) _ _ _ (by omega) (by omega) (fun j a b => by
        by_cases q : j = k
        · rw [q, ← hz]; omega
        · exact ha j a (by omega)) h (lv_sub hl [0, 1] rfl)
        · have c2 : (0 : Int) < (x1 : Int) := c2
          refine z_iload_n E dX0_leastCount_25 hl 1 rfl ?_
          exact ret ur1 dX0_leastCount_26 rfl (⟨lc_k (by omega) ha (by rw [← hz]; omega), hIr1, hLr1, hWr1⟩) h
  exact loop7 10 1 _ _ _ (by omega) (by omega) (fun j a b => by omega) h (lv_sub hl [0, 1] rfl)
end
section
noncomputable def scanP (P : Int → Prop) : Nat → Int → Int
  | 0, a => a
  | n + 1, a => @ite Int (P a) (Classical.propDecidable _) a (scanP P n (a + 1))
theorem scan_eq {P : Int → Prop} : ∀ (n : Nat) (a b : Int), a ≤ b → b ≤ a + n → (∀ c, a ≤ c → c < b → ¬ P c) → (b = a + n ∨ P b) → scanP P n a = b
  | 0, a, b, h1, h2, _, _ => by
    simp only [scanP]
    omega
  | n + 1, a, b, h1, h2, h3, h4 => by
    by_cases q : P a
    · have z : a = b := by
        rcases Int.lt_or_le a b with z | z
        · exact absurd q (h3 a (Int.le_refl _) z)
        · omega
      simp only [scanP]
      rw [if_pos q]
      exact z
    · simp only [scanP]
      rw [if_neg q]
      have z : a ≠ b := by
        intro z
        rcases h4 with e | e
        · omega
        · rw [← z] at e; exact q e
      refine scan_eq n (a + 1) b (by omega) (by omega) (fun c x y => h3 c (by omega) y) ?_
      rcases h4 with e | e
      · exact Or.inl (by omega)
      · exact Or.inr e
def gP (T : TT) (ty left v a : Int) : Prop := 0 ≤ stp T ty v a ∧ 0 < wz T ty left (stp T ty v a)
noncomputable def fa (T : TT) (ty left v : Int) : Int := scanP (gP T ty left v) 199 0
theorem fa_eq {T : TT} {ty left v a : Int} (h : 0 ≤ a ∧ a ≤ 199) (h1 : ∀ c, 0 ≤ c → c < a → ¬ gP T ty left v c) (h2 : a = 199 ∨ gP T ty left v a) : a = fa T ty left v := (scan_eq 199 0 a h.1 (by omega) h1 (by rcases h2 with e | e; exact Or.inl (by omega); exact Or.inr e)).symm
theorem sumA_pos {f : FF} : ∀ n : Nat, 0 < sumA f n → ∃ a : Nat, a < n ∧ 0 < f (a : Int)
  | 0, h => absurd h (by simp [sumA])
  | n + 1, h => by
    by_cases q : 0 < f (n : Int)
    · exact ⟨n, by omega, q⟩
    · obtain ⟨a, h1, h2⟩ := sumA_pos (f := f) n (by simp only [sumA] at h; omega)
      exact ⟨a, by omega, h2⟩
theorem fa_pos {T : TT} {ty left v : Int} (hl : 0 ≤ left) (h : 0 < wz T ty (left + 1) v) : 0 ≤ fa T ty left v ∧ fa T ty left v ≤ 199 ∧ gP T ty left v (fa T ty left v) := by
  rw [wz_s _ _ _ hl] at h
  have h2 : 0 < sumZ (wt T ty left v) 200 := by
    split at h
    · exact h
    · omega
  obtain ⟨a, h3, h4⟩ := sumA_pos 200 h2
  have h5 : ∃ k : Nat, gP T ty left v (k : Int) := by
    refine ⟨a, ?_⟩
    unfold wt at h4
    by_cases q : 0 ≤ stp T ty v (a : Int)
    · rw [if_pos q] at h4; exact ⟨q, h4⟩
    · rw [if_neg q] at h4; omega
  have h6 : gP T ty left v (a : Int) := by
    unfold wt at h4
    by_cases q : 0 ≤ stp T ty v (a : Int)
    · rw [if_pos q] at h4; exact ⟨q, h4⟩
    · rw [if_neg q] at h4; omega
  obtain ⟨k, h7, h8⟩ := pk_least (fun k : Nat => gP T ty left v (k : Int)) h5
  have h9 : k ≤ a := by
    rcases Nat.lt_or_ge a k with z | z
    · exact absurd h6 (h8 a z)
    · exact z
  have e : (k : Int) = fa T ty left v := fa_eq (by omega) (fun c x y z => h8 c.toNat (by omega) (by rw [Int.toNat_of_nonneg x]; exact z)) (Or.inr h7)
  rw [← e]
  exact ⟨by omega, by omega, h7⟩
noncomputable def nz (T : TT) (ty k : Int) : Nat → Int
  | 0 => 0
  | i + 1 => stp T ty (nz T ty k i) (fa T ty (k - (i : Int) - 1) (nz T ty k i))
noncomputable def ndZ (T : TT) (ty k i : Int) : Int := nz T ty k i.toNat
theorem ndZ_0 (T : TT) (ty k : Int) : ndZ T ty k 0 = 0 := rfl
theorem ndZ_s (T : TT) (ty k : Int) {i : Int} (h : 0 ≤ i) : ndZ T ty k (i + 1) = stp T ty (ndZ T ty k i) (fa T ty (k - i - 1) (ndZ T ty k i)) := by
  unfold ndZ
  rw [Int.toNat_add h (by omega)]
  show stp T ty (nz T ty k i.toNat) (fa T ty (k - (i.toNat : Int) - 1) (nz T ty k i.toNat)) = _
  rw [Int.toNat_of_nonneg h]
noncomputable def pz (T : TT) (ty k i : Int) : Int := fa T ty (k - i - 1) (ndZ T ty k i)
noncomputable def wq (T : TT) : Int := if lc T = 0 then 0 else wz T 2 (lc T) 0
theorem wq_bd (T : TT) : 0 ≤ wq T ∧ wq T ≤ 8000000 := by
  unfold wq
  have h := lc_bd T
  have h2 := wz_bd T 2 0 (show 0 ≤ lc T ∧ lc T ≤ 3 by omega)
  split <;> omega
noncomputable def rz (T : TT) : FF := fun i => szA (T.2.1 2) (pz T 0 (lc T) i)
noncomputable def off (T : TT) (i : Int) : Int := sumZ (rz T) i
def okR (T : TT) : Prop := 0 < lc T ∧ ∀ i, 0 ≤ i → i < lc T → 0 < rz T i
noncomputable def lR (T : TT) (i k : Int) : Int := ltA (T.2.1 2) T.2.2.2.1 2 (pz T 0 (lc T) i) k
noncomputable def rF (T : TT) (j : Int) : Int := if j < off T 1 then lR T 0 j else if j < off T 2 then lR T 1 (j - off T 1) else lR T 2 (j - off T 2)
/-- the program's atoms are atoms -/
theorem pz_bd (T : TT) {i : Int} (h : 0 ≤ i ∧ i < lc T) : 0 ≤ ndZ T 0 (lc T) i ∧ 0 < wz T 0 (lc T - i) (ndZ T 0 (lc T) i) ∧ 0 ≤ pz T 0 (lc T) i ∧ pz T 0 (lc T) i ≤ 199 := by
  have hl := lc_bd T
  have key : ∀ n : Nat, (n : Int) < lc T → 0 ≤ ndZ T 0 (lc T) n ∧ 0 < wz T 0 (lc T - n) (ndZ T 0 (lc T) n) := by
    intro n
    induction n with
    | zero =>
      intro q
      rw [show ((0 : Nat) : Int) = 0 from rfl, ndZ_0, Int.sub_zero]
      exact ⟨by omega, hl.2.2 (by omega)⟩
    | succ n ih =>
      intro q
      obtain ⟨h1, h2⟩ := ih (by omega)
      have h3 := fa_pos (T := T) (ty := 0) (left := lc T - n - 1) (v := ndZ T 0 (lc T) n) (by omega) (by rw [Int.sub_add_cancel]; exact h2)
      rw [show ((n + 1 : Nat) : Int) = (n : Int) + 1 from rfl, ndZ_s _ _ _ (by omega), show lc T - ((n : Int) + 1) = lc T - n - 1 by omega]
      exact ⟨h3.2.2.1, h3.2.2.2⟩
  have h1 := key i.toNat (by omega)
  rw [Int.toNat_of_nonneg h.1] at h1
  have h3 := fa_pos (T := T) (ty := 0) (left := lc T - i - 1) (v := ndZ T 0 (lc T) i) (by omega) (by rw [Int.sub_add_cancel]; exact h1.2)
  exact ⟨h1.1, h1.2, h3.1, h3.2.1⟩
theorem rz_bd {T : TT} (hT : TOk T) {i : Int} (h : 0 ≤ i ∧ i < lc T) : 0 ≤ rz T i ∧ rz T i ≤ 6 := szA_bd (hT.2.1 2) (pz_bd T h).2.2.1
theorem off_0 (T : TT) : off T 0 = 0 := rfl
theorem off_s (T : TT) {i : Int} (h : 0 ≤ i) : off T (i + 1) = off T i + rz T i := sumZ_s _ h
theorem off_bd {T : TT} (hT : TOk T) {i : Int} (h : 0 ≤ i ∧ i ≤ lc T) : 0 ≤ off T i ∧ off T i ≤ 6 * i := by
  have key : ∀ n : Nat, (n : Int) ≤ lc T → 0 ≤ off T n ∧ off T n ≤ 6 * n := by
    intro n
    induction n with
    | zero => intro _; rw [show ((0 : Nat) : Int) = 0 from rfl, off_0]; omega
    | succ n ih =>
      intro q
      have h1 := ih (by omega)
      have h2 := rz_bd hT (i := n) (by omega)
      rw [show ((n + 1 : Nat) : Int) = (n : Int) + 1 from rfl, off_s _ (by omega)]
      omega
  have h1 := key i.toNat (by omega)
  rw [Int.toNat_of_nonneg h.1] at h1
  exact h1
theorem rF_at {T : TT} (hT : TOk T) {i k : Int} (h : 0 ≤ i ∧ i < lc T) (hk : 0 ≤ k ∧ k < rz T i) : rF T (off T i + k) = lR T i k := by
  have hl := lc_bd T
  have e1 := off_s T (show (0 : Int) ≤ 0 by omega)
  have e2 := off_s T (show (0 : Int) ≤ 1 by omega)
  rw [off_0, Int.zero_add, Int.zero_add] at e1
  rw [show (1 : Int) + 1 = 2 from rfl] at e2
  unfold rF
  have hi : i = 0 ∨ i = 1 ∨ i = 2 := by omega
  rcases hi with e | e | e
  · subst e
    rw [off_0, if_pos (by omega), Int.zero_add]
  · subst e
    rw [if_neg (by omega), if_pos (by omega)]
    congr 1
    omega
  · subst e
    have h1 := rz_bd hT (i := 1) (by omega)
    rw [if_neg (by omega), if_neg (by omega)]
    congr 1
    omega
noncomputable def rl (T : TT) : Int := @ite Int (okR T) (Classical.propDecidable _) (off T (lc T)) (-3)
noncomputable def rv (T : TT) (i : Int) : Int := @ite Int (okR T ∧ 0 ≤ i ∧ i < off T (lc T)) (Classical.propDecidable _) (rF T i) (-3)
theorem rl_y {T : TT} (h : okR T) : rl T = off T (lc T) := if_pos h
theorem rl_n {T : TT} (h : ¬ okR T) : rl T = -3 := if_neg h
theorem rv_y {T : TT} {i : Int} (h : okR T ∧ 0 ≤ i ∧ i < off T (lc T)) : rv T i = rF T i := if_pos h
theorem rv_n {T : TT} {i : Int} (h : ¬ (okR T ∧ 0 ≤ i ∧ i < off T (lc T))) : rv T i = -3 := if_neg h
end
section
set_option maxHeartbeats 4000000 in
set_option maxRecDepth 100000 in
theorem mX_goesOn (l : Launch) (D : va_G) (ad : Nat → Nat) (cI cB : ClassId) (T : TT) (C : CC) (O : OO) (node atom left : Int) (hT : TOk T) (hC : CB C) (hL : LRt T C.1 0) (hW : WR T C.2.2.2.1 0) (hv : 0 ≤ node ∧ node < 343) (h2 : 0 ≤ atom ∧ atom < 200) (h3 : 0 ≤ left ∧ left ≤ 3) : MI l D [(cI, .int), (cB, .byte)] yX0_goesOn cX0_goesOn 5 .boolean 2 51 [.ref (ad 0), .int (zI node), .int (zI atom), .int (zI left)] (wX ad cI cB T C O) (fun z (_ : Unit) => (z = 0 ∨ z = 1) ∧ (z = 1 ↔ gP T 0 left node atom)) (fun _ => wX ad cI cB T C O) := by
  refine MI.of RX0 (by decide) rfl (Nat.le_of_ble_eq_true rfl) [(0, .ref (ad 0)), (1, .int (zI node)), (2, .int (zI atom)), (3, .int (zI left))] rfl ?_
  intro p e s m args below meth c A Q E ret ls h hl
  refine z_aload_n E dX0_goesOn_0 hl 0 rfl ?_
  refine z_iload_n E dX0_goesOn_1 hl 1 rfl ?_
  refine z_iload_n E dX0_goesOn_2 hl 2 rfl ?_
  refine z_iconst E dX0_goesOn_3 ?_
  refine z_call (n := 3) (rest := []) E h (mX_step l D ad cI cB T C O node atom 0 hT hC hL (by omega) (by omega) (by omega)) q170 q172 qs13 q33 q173 (by decide +kernel) ⟨Nat.le_of_ble_eq_true rfl, Nat.le_of_ble_eq_true rfl⟩ ⟨Nat.le_refl _, Nat.le_refl _⟩ rfl rfl rfl hl.1 (Nat.le_of_ble_eq_true rfl) rfl dX0_goesOn_4 (fun r1 ur1 H locs er1 h => ?_)
  have br1 := stp_bd hT (ty := 0) (a := atom) (show 0 ≤ node ∧ node < 343 by omega)
  have h : ZH D A s.heap (wX ad cI cB T C O) H locs := h
  refine z_istore E [(0, .ref (ad 0)), (1, .int (zI node)), (2, .int (zI atom)), (3, .int (zI left)), (4, .int (zI r1))] dX0_goesOn_7 hl (by decide) [1, 2, 3, 4, 0] rfl (fun ls hl => ?_)
  refine z_iload E dX0_goesOn_9 hl 4 rfl ?_
  refine z_if_lt E 34 dX0_goesOn_11 (by decide) (by omega) (fun c1 => ?_) (fun c1 => ?_)
  · have c1 : (r1 : Int) < (0 : Int) := c1
    refine z_iconst E dX0_goesOn_34 ?_
    exact ret () dX0_goesOn_35 (zI_bool (by omega)).1 (⟨by omega, ⟨fun q => by omega, fun q => by have := q.1; omega⟩⟩) h
  · have c1 : (0 : Int) ≤ (r1 : Int) := c1
    refine z_aload_n E dX0_goesOn_14 hl 0 rfl ?_
    refine gX_wy E h dX0_goesOn_15 ?_
    refine z_iload_n E dX0_goesOn_18 hl 3 rfl ?_
    refine z_sipush E dX0_goesOn_19 (by decide +kernel) ?_
    refine z_imul E dX0_goesOn_22 ?_
    refine z_iload E dX0_goesOn_23 hl 4 rfl ?_
    refine z_iadd E dX0_goesOn_25 ?_
    refine lX_wy E h (by omega) dX0_goesOn_26 (fun x1 ex1 => ?_)
    have ex1 : x1 = C.2.2.2.1 ((left * 343) + r1) := ex1
    have b1 := hC.2.2.2.1 ((left * 343) + r1)
    have hz := hW left r1 (by omega) (by omega) (by omega) (by omega)
    rw [← ex1, er1] at hz
    refine z_if_le E 34 dX0_goesOn_27 (by decide) (by omega) (fun c2 => ?_) (fun c2 => ?_)
    · have c2 : (x1 : Int) ≤ (0 : Int) := c2
      refine z_iconst E dX0_goesOn_34 ?_
      exact ret () dX0_goesOn_35 (zI_bool (by omega)).1 (⟨by omega, ⟨fun q => by omega, fun q => by have := q.2; omega⟩⟩) h
    · have c2 : (0 : Int) < (x1 : Int) := c2
      refine z_iconst E dX0_goesOn_30 ?_
      refine z_goto E 35 dX0_goesOn_31 (by decide) ?_
      exact ret () dX0_goesOn_35 (zI_bool (by omega)).1 (⟨by omega, ⟨fun q => ⟨by omega, by omega⟩, fun q => rfl⟩⟩) h
set_option maxHeartbeats 4000000 in
set_option maxRecDepth 100000 in
theorem mX_least (l : Launch) (D : va_G) (ad : Nat → Nat) (cI cB : ClassId) (T : TT) (C : CC) (O : OO) (hT : TOk T) (hI : CInv T C) : MI l D [(cI, .int), (cB, .byte)] yX0_least cX0_least 2 .int 7 169 [.ref (ad 0)] (wX ad cI cB T C O) (fun z (u : CC) => z = (if lc T = 0 then -3 else lc T) ∧ CInv T u) (fun u => wX ad cI cB T u O) := by
  refine MI.of RX0 (by decide) rfl (Nat.le_of_ble_eq_true rfl) [(0, .ref (ad 0))] rfl ?_
  intro p e s m args below meth c A Q E ret ls h hl
  refine z_aload_n E dX0_least_0 hl 0 rfl ?_
  refine z_call (n := 0) (rest := []) E h (mX_leastCount l D ad cI cB T C O  hT hI) q120 q122 qs2 q33 q123 (by decide +kernel) ⟨Nat.le_of_ble_eq_true rfl, Nat.le_of_ble_eq_true rfl⟩ ⟨Nat.le_refl _, Nat.le_refl _⟩ rfl rfl rfl hl.1 (Nat.le_of_ble_eq_true rfl) rfl dX0_least_1 (fun r1 ur1 H locs er1 h => ?_)
  obtain ⟨hzr1, hIr1, hLr1, hWr1⟩ := er1
  subst hzr1
  have hCr1 := hIr1.1
  have hlb := lc_bd T
  have h : ZH D A s.heap (wX ad cI cB T ur1 O) H locs := h
  refine z_istore_n E [(0, .ref (ad 0)), (1, .int (zI (lc T)))] dX0_least_4 hl (by decide) [1, 0] rfl (fun ls hl => ?_)
  refine z_iload_n E dX0_least_5 hl 1 rfl ?_
  refine z_if_ne E 14 dX0_least_6 (by decide) (by omega) (fun c1 => ?_) (fun c1 => ?_)
  · have c1 : (lc T : Int) ≠ (0 : Int) := c1
    refine z_iload_n E dX0_least_14 hl 1 rfl ?_
    exact ret ur1 dX0_least_15 rfl (⟨by rw [if_neg (by omega)], hIr1⟩) h
  · have c1 : (lc T : Int) = (0 : Int) := c1
    refine z_bipush E dX0_least_9 (by decide +kernel) ?_
    refine z_goto E 15 dX0_least_11 (by decide) ?_
    exact ret ur1 dX0_least_15 rfl (⟨by rw [if_pos (by omega)], hIr1⟩) h
set_option maxHeartbeats 4000000 in
set_option maxRecDepth 100000 in
theorem mX_programs (l : Launch) (D : va_G) (ad : Nat → Nat) (cI cB : ClassId) (T : TT) (C : CC) (O : OO) (cn : Int) (hT : TOk T) (hI : CInv T C) (hr : -2147483648 ≤ cn ∧ cn ≤ 2147483647) : MI l D [(cI, .int), (cB, .byte)] yX0_programs cX0_programs 2 .int 6 148 [.ref (ad 0), .int (zI cn)] (wX ad cI cB T C O) (fun z (u : CC) => z = (if cn < 1 ∨ 3 < cn then -4 else wz T 0 cn 0) ∧ CInv T u) (fun u => wX ad cI cB T u O) := by
  refine MI.of RX0 (by decide) rfl (Nat.le_of_ble_eq_true rfl) [(0, .ref (ad 0)), (1, .int (zI cn))] rfl ?_
  intro p e s m args below meth c A Q E ret ls h hl
  refine z_iload_n E dX0_programs_0 hl 1 rfl ?_
  refine z_iconst E dX0_programs_1 ?_
  refine z_icmp_lt E 10 dX0_programs_2 (by decide) (by omega) (fun c1 => ?_) (fun c1 => ?_)
  · have c1 : (cn : Int) < (1 : Int) := c1
    refine z_bipush E dX0_programs_10 (by decide +kernel) ?_
    exact ret C dX0_programs_12 rfl (⟨by rw [if_pos (by omega)], hI⟩) h
  · have c1 : (1 : Int) ≤ (cn : Int) := c1
    refine z_iload_n E dX0_programs_5 hl 1 rfl ?_
    refine z_iconst E dX0_programs_6 ?_
    refine z_icmp_le E 13 dX0_programs_7 (by decide) (by omega) (fun c2 => ?_) (fun c2 => ?_)
    · have c2 : (cn : Int) ≤ (3 : Int) := c2
      refine z_aload_n E dX0_programs_13 hl 0 rfl ?_
      refine z_iconst E dX0_programs_14 ?_
      refine z_callv (n := 1) (rest := []) E h (mX_count l D ad cI cB T C O 0 hT hI (by omega)) q124 q126 qs3 q33 q127 (by decide +kernel) ⟨Nat.le_of_ble_eq_true rfl, Nat.le_of_ble_eq_true rfl⟩ ⟨Nat.le_refl _, Nat.le_refl _⟩ rfl rfl rfl hl.1 (Nat.le_of_ble_eq_true rfl) rfl dX0_programs_15 (fun ur1 H locs er1 h => ?_)
      obtain ⟨hIr1, hLr1, hWr1⟩ := er1
      have hCr1 := hIr1.1
      have h : ZH D A s.heap (wX ad cI cB T ur1 O) H locs := h
      refine z_aload_n E dX0_programs_18 hl 0 rfl ?_
      refine gX_wy E h dX0_programs_19 ?_
      refine z_iload_n E dX0_programs_22 hl 1 rfl ?_
      refine z_sipush E dX0_programs_23 (by decide +kernel) ?_
      refine z_imul E dX0_programs_26 ?_
      refine lX_wy E h (by omega) dX0_programs_27 (fun x1 ex1 => ?_)
      have ex1 : x1 = ur1.2.2.2.1 (cn * 343) := ex1
      have b1 := hCr1.2.2.2.1 (cn * 343)
      exact ret ur1 dX0_programs_28 rfl (⟨by rw [if_neg (by omega), ex1, ← hWr1 cn 0 (by omega) (by omega) (by omega) (by omega), Int.add_zero], hIr1⟩) h
    · have c2 : (3 : Int) < (cn : Int) := c2
      refine z_bipush E dX0_programs_10 (by decide +kernel) ?_
      exact ret C dX0_programs_12 rfl (⟨by rw [if_pos (by omega)], hI⟩) h
set_option maxHeartbeats 4000000 in
set_option maxRecDepth 100000 in
theorem mX_findFirst (l : Launch) (D : va_G) (ad : Nat → Nat) (cI cB : ClassId) (T : TT) (C : CC) (O : OO) (hT : TOk T) (hI : CInv T C) (hO : OB O) : MV l D [(cI, .int), (cB, .byte)] yX0_findFirst cX0_findFirst 4 7 169 [.ref (ad 0)] (wX ad cI cB T C O) (fun u : CC × FF => CInv T u.1 ∧ (∀ i, 0 ≤ i → i < lc T → u.2 i = pz T 0 (lc T) i) ∧ (∀ j, 0 ≤ u.2 j ∧ u.2 j ≤ 199)) (fun u => wX ad cI cB T u.1 (lc T, u.2, O.2.2.1, O.2.2.2)) := by
  refine MV.of RX0 (by decide) rfl (Nat.le_of_ble_eq_true rfl) [(0, .ref (ad 0))] rfl ?_
  intro p e s m args below meth c A Q E ret ls h hl
  refine z_aload_n E dX0_findFirst_0 hl 0 rfl ?_
  refine z_aload_n E dX0_findFirst_1 hl 0 rfl ?_
  refine z_call (n := 0) (rest := [.ref (ad 0)]) E h (mX_leastCount l D ad cI cB T C O  hT hI) q120 q122 qs2 q33 q123 (by decide +kernel) ⟨Nat.le_of_ble_eq_true rfl, Nat.le_of_ble_eq_true rfl⟩ ⟨Nat.le_refl _, Nat.le_refl _⟩ rfl rfl rfl hl.1 (Nat.le_of_ble_eq_true rfl) rfl dX0_findFirst_2 (fun r1 ur1 H locs er1 h => ?_)
  obtain ⟨hzr1, hIr1, hLr1, hWr1⟩ := er1
  subst hzr1
  have hCr1 := hIr1.1
  have hlb := lc_bd T
  have h : ZH D A s.heap (wX ad cI cB T ur1 O) H locs := h
  refine pX_at_ E h dX0_findFirst_5 (fun H locs h => ?_)
  have h : ZH D A s.heap (wX ad cI cB T ur1 (lc T, O.2.1, O.2.2.1, O.2.2.2)) H locs := h
  refine z_iconst E dX0_findFirst_8 ?_
  refine z_istore_n E [(0, .ref (ad 0)), (1, .int (zI 0))] dX0_findFirst_9 hl (by decide) [1, 0] rfl (fun ls hl => ?_)
  refine z_iconst E dX0_findFirst_10 ?_
  refine z_istore_n E [(0, .ref (ad 0)), (1, .int (zI 0)), (2, .int (zI 0))] dX0_findFirst_11 hl (by decide) [1, 2, 0] rfl (fun ls hl => ?_)
  have loop12 : ∀ (n12 : Nat) (i : Int) (node : Int) (pr : FF) (H : Heap) (locs : List Loc) (ls : Array Slot), (lc T - i) < (n12 : Int) → (0 ≤ i ∧ i ≤ lc T) → (node = ndZ T 0 (lc T) i) → (0 ≤ node ∧ node < 343) → (i < lc T → 0 < wz T 0 (lc T - i) node) → (∀ j, 0 ≤ j → j < i → pr j = pz T 0 (lc T) j) → (∀ j, 0 ≤ pr j ∧ pr j ≤ 199) → ZH D A s.heap (wX ad cI cB T ur1 (lc T, pr, O.2.2.1, O.2.2.2)) H locs → lv_has ls 4 [(0, .ref (ad 0)), (1, .int (zI node)), (2, .int (zI i))] → W p l e ({ frames := 7, cells := 0, slots := 0, locals := 169 } : Room) s m args below meth c H locs 0 0 Q (F0 m 12 ls []) := by
    intro n12
    induction n12 with
    | zero =>
      intro i node pr H locs ls hm12 hi hnd hnb hpos hpr hprb h hl
      exfalso; omega
    | succ n12 ih12 =>
      intro i node pr H locs ls hm12 hi hnd hnb hpos hpr hprb h hl
      refine z_iload_n E dX0_findFirst_12 hl 2 rfl ?_
      refine z_aload_n E dX0_findFirst_13 hl 0 rfl ?_
      refine gX_at_ (at_ := lc T) E h dX0_findFirst_14 ?_
      refine z_icmp_ge E 73 dX0_findFirst_17 (by decide) (by omega) (fun c1 => ?_) (fun c1 => ?_)
      · have c1 : (lc T : Int) ≤ (i : Int) := c1
        exact ret (ur1, pr) dX0_findFirst_73 (⟨hIr1, fun j a b => hpr j a (by omega), hprb⟩) h
      · have c1 : (i : Int) < (lc T : Int) := c1
        refine z_iconst E dX0_findFirst_20 ?_
        refine z_istore_n E [(0, .ref (ad 0)), (1, .int (zI node)), (2, .int (zI i)), (3, .int (zI 0))] dX0_findFirst_21 hl (by decide) [1, 2, 3, 0] rfl (fun ls hl => ?_)
        have loop22 : ∀ (n22 : Nat) (a : Int) (H : Heap) (locs : List Loc) (ls : Array Slot), (199 - a) < (n22 : Int) → (0 ≤ a ∧ a ≤ 199) → (∀ b, 0 ≤ b → b < a → ¬ gP T 0 (lc T - i - 1) node b) → ZH D A s.heap (wX ad cI cB T ur1 (lc T, pr, O.2.2.1, O.2.2.2)) H locs → lv_has ls 4 [(0, .ref (ad 0)), (1, .int (zI node)), (2, .int (zI i)), (3, .int (zI a))] → W p l e ({ frames := 7, cells := 0, slots := 0, locals := 169 } : Room) s m args below meth c H locs 0 0 Q (F0 m 22 ls []) := by
          intro n22
          induction n22 with
          | zero =>
            intro a H locs ls hm22 hab hna h hl
            exfalso; omega
          | succ n22 ih22 =>
            intro a H locs ls hm22 hab hna h hl
            refine z_iload_n E dX0_findFirst_22 hl 3 rfl ?_
            refine z_sipush E dX0_findFirst_23 (by decide +kernel) ?_
            refine z_icmp_ge E 52 dX0_findFirst_26 (by decide) (by omega) (fun c2 => ?_) (fun c2 => ?_)
            · have c2 : (199 : Int) ≤ (a : Int) := c2
              refine z_aload_n E dX0_findFirst_52 hl 0 rfl ?_
              refine gX_pr E h dX0_findFirst_53 ?_
              refine z_iload_n E dX0_findFirst_56 hl 2 rfl ?_
              refine z_iload_n E dX0_findFirst_57 hl 3 rfl ?_
              refine sX_pr E h (by omega) dX0_findFirst_58 (fun H locs h => ?_)
              have h : ZH D A s.heap (wX ad cI cB T ur1 (lc T, up pr i a, O.2.2.1, O.2.2.2)) H locs := h
              refine z_aload_n E dX0_findFirst_59 hl 0 rfl ?_
              refine z_iload_n E dX0_findFirst_60 hl 1 rfl ?_
              refine z_iload_n E dX0_findFirst_61 hl 3 rfl ?_
              refine z_iconst E dX0_findFirst_62 ?_
              refine z_call (n := 3) (rest := []) E h (mX_step l D ad cI cB T ur1 (lc T, up pr i a, O.2.2.1, O.2.2.2) node a 0 hT hCr1 hLr1 (by omega) (by omega) (by omega)) q170 q172 qs13 q33 q173 (by decide +kernel) ⟨Nat.le_of_ble_eq_true rfl, Nat.le_of_ble_eq_true rfl⟩ ⟨Nat.le_refl _, Nat.le_refl _⟩ rfl rfl rfl hl.1 (Nat.le_of_ble_eq_true rfl) rfl dX0_findFirst_63 (fun r2 ur2 H locs er2 h => ?_)
              have br2 := stp_bd hT (ty := 0) (a := a) (show 0 ≤ node ∧ node < 343 by omega)
              have h : ZH D A s.heap (wX ad cI cB T ur1 (lc T, up pr i a, O.2.2.1, O.2.2.2)) H locs := h
              refine z_istore_n E [(0, .ref (ad 0)), (1, .int (zI r2)), (2, .int (zI i)), (3, .int (zI a))] dX0_findFirst_66 hl (by decide) [1, 0, 2, 3] rfl (fun ls hl => ?_)
              refine z_iinc E [(0, .ref (ad 0)), (1, .int (zI r2)), (2, .int (zI (i + 1))), (3, .int (zI a))] dX0_findFirst_67 hl 2 rfl (by decide) [1, 2, 0, 3] rfl (fun ls hl => ?_)
              refine z_goto E 12 dX0_findFirst_70 (by decide) ?_
              have hfa := fa_eq (T := T) (ty := 0) (left := lc T - i - 1) (v := node) hab hna (Or.inl (by omega))
              have hpp := fa_pos (T := T) (ty := 0) (left := lc T - i - 1) (v := node) (by omega) (by rw [Int.sub_add_cancel]; exact hpos (by omega))
              rw [← hfa] at hpp
              have hpg := hpp.2.2.1
              have hpw := hpp.2.2.2
              rw [← er2] at hpg hpw
              exact ih12 (i + 1) r2 (up pr i a) _ _ _ (by omega) (by omega) (by rw [ndZ_s _ _ _ (by omega), ← hnd, ← hfa]; exact er2) (by omega) (fun q => by rw [show lc T - (i + 1) = lc T - i - 1 by omega]; exact hpw) (up_ext hpr (by unfold pz; rw [← hnd]; exact hfa)) (up_bd hprb (by omega)) h (lv_sub hl [0, 1, 2] rfl)
            · have c2 : (a : Int) < (199 : Int) := c2
              refine z_aload_n E dX0_findFirst_29 hl 0 rfl ?_
              refine z_iload_n E dX0_findFirst_30 hl 1 rfl ?_
              refine z_iload_n E dX0_findFirst_31 hl 3 rfl ?_
              refine z_aload_n E dX0_findFirst_32 hl 0 rfl ?_
              refine gX_at_ (at_ := lc T) E h dX0_findFirst_33 ?_
              refine z_iload_n E dX0_findFirst_36 hl 2 rfl ?_
              refine z_isub E dX0_findFirst_37 ?_
              refine z_iconst E dX0_findFirst_38 ?_
              refine z_isub E dX0_findFirst_39 ?_
              refine z_call (n := 3) (rest := []) E h (mX_goesOn l D ad cI cB T ur1 (lc T, pr, O.2.2.1, O.2.2.2) node a (((lc T) - i) - 1) hT hCr1 hLr1 hWr1 (by omega) (by omega) (by omega)) q190 q192 qs16 q33 q193 (by decide +kernel) ⟨Nat.le_of_ble_eq_true rfl, Nat.le_of_ble_eq_true rfl⟩ ⟨Nat.le_refl _, Nat.le_refl _⟩ rfl rfl rfl hl.1 (Nat.le_of_ble_eq_true rfl) rfl dX0_findFirst_40 (fun r2 ur2 H locs er2 h => ?_)
              have h : ZH D A s.heap (wX ad cI cB T ur1 (lc T, pr, O.2.2.1, O.2.2.2)) H locs := h
              refine z_if_ne E 52 dX0_findFirst_43 (by decide) (by omega) (fun c3 => ?_) (fun c3 => ?_)
              · have c3 : (r2 : Int) ≠ (0 : Int) := c3
                refine z_aload_n E dX0_findFirst_52 hl 0 rfl ?_
                refine gX_pr E h dX0_findFirst_53 ?_
                refine z_iload_n E dX0_findFirst_56 hl 2 rfl ?_
                refine z_iload_n E dX0_findFirst_57 hl 3 rfl ?_
                refine sX_pr E h (by omega) dX0_findFirst_58 (fun H locs h => ?_)
                have h : ZH D A s.heap (wX ad cI cB T ur1 (lc T, up pr i a, O.2.2.1, O.2.2.2)) H locs := h
                refine z_aload_n E dX0_findFirst_59 hl 0 rfl ?_
                refine z_iload_n E dX0_findFirst_60 hl 1 rfl ?_
                refine z_iload_n E dX0_findFirst_61 hl 3 rfl ?_
                refine z_iconst E dX0_findFirst_62 ?_
                refine z_call (n := 3) (rest := []) E h (mX_step l D ad cI cB T ur1 (lc T, up pr i a, O.2.2.1, O.2.2.2) node a 0 hT hCr1 hLr1 (by omega) (by omega) (by omega)) q170 q172 qs13 q33 q173 (by decide +kernel) ⟨Nat.le_of_ble_eq_true rfl, Nat.le_of_ble_eq_true rfl⟩ ⟨Nat.le_refl _, Nat.le_refl _⟩ rfl rfl rfl hl.1 (Nat.le_of_ble_eq_true rfl) rfl dX0_findFirst_63 (fun r3 ur3 H locs er3 h => ?_)
                have br3 := stp_bd hT (ty := 0) (a := a) (show 0 ≤ node ∧ node < 343 by omega)
                have h : ZH D A s.heap (wX ad cI cB T ur1 (lc T, up pr i a, O.2.2.1, O.2.2.2)) H locs := h
                refine z_istore_n E [(0, .ref (ad 0)), (1, .int (zI r3)), (2, .int (zI i)), (3, .int (zI a))] dX0_findFirst_66 hl (by decide) [1, 0, 2, 3] rfl (fun ls hl => ?_)
                refine z_iinc E [(0, .ref (ad 0)), (1, .int (zI r3)), (2, .int (zI (i + 1))), (3, .int (zI a))] dX0_findFirst_67 hl 2 rfl (by decide) [1, 2, 0, 3] rfl (fun ls hl => ?_)
                refine z_goto E 12 dX0_findFirst_70 (by decide) ?_
                have hfa := fa_eq (T := T) (ty := 0) (left := lc T - i - 1) (v := node) hab hna (Or.inr (er2.2.mp (by omega)))
                have hpp := fa_pos (T := T) (ty := 0) (left := lc T - i - 1) (v := node) (by omega) (by rw [Int.sub_add_cancel]; exact hpos (by omega))
                rw [← hfa] at hpp
                have hpg := hpp.2.2.1
                have hpw := hpp.2.2.2
                rw [← er3] at hpg hpw
                exact ih12 (i + 1) r3 (up pr i a) _ _ _ (by omega) (by omega) (by rw [ndZ_s _ _ _ (by omega), ← hnd, ← hfa]; exact er3) (by omega) (fun q => by rw [show lc T - (i + 1) = lc T - i - 1 by omega]; exact hpw) (up_ext hpr (by unfold pz; rw [← hnd]; exact hfa)) (up_bd hprb (by omega)) h (lv_sub hl [0, 1, 2] rfl)
              · have c3 : (r2 : Int) = (0 : Int) := c3
                refine z_iinc E [(0, .ref (ad 0)), (1, .int (zI node)), (2, .int (zI i)), (3, .int (zI (a + 1)))] dX0_findFirst_46 hl 3 rfl (by decide) [1, 2, 3, 0] rfl (fun ls hl => ?_)
                refine z_goto E 22 dX0_findFirst_49 (by decide) ?_
                exact ih22 (a + 1) _ _ _ (by omega) (by omega) (fun b x y => by
              by_cases q : b = a
              · rw [q]; exact fun w => by have := er2.2.mpr w; omega
              · exact hna b x (by omega)) h (lv_sub hl [0, 1, 2, 3] rfl)
        exact loop22 1000 0 _ _ _ (by omega) (by omega) (fun b x y => by omega) h (lv_sub hl [0, 1, 2, 3] rfl)
  exact loop12 10 0 0 O.2.1 _ _ _ (by omega) (by omega) ((ndZ_0 _ _ _).symm) (by omega) (fun q => by rw [Int.sub_zero]; exact hlb.2.2 q) (fun j a b => by omega) (hO.2.1) h (lv_sub hl [0, 1, 2] rfl)
set_option maxHeartbeats 4000000 in
set_option maxRecDepth 100000 in
theorem mX_atom (l : Launch) (D : va_G) (ad : Nat → Nat) (cI cB : ClassId) (T : TT) (C : CC) (O : OO) (i : Int) (hT : TOk T) (hI : CInv T C) (hO : OB O) (hr : -2147483648 ≤ i ∧ i ≤ 2147483647) : MI l D [(cI, .int), (cB, .byte)] yX0_atom cX0_atom 2 .int 8 192 [.ref (ad 0), .int (zI i)] (wX ad cI cB T C O) (fun z (u : CC × FF) => z = (if i < 0 ∨ lc T ≤ i then -3 else pz T 0 (lc T) i) ∧ CInv T u.1 ∧ (∀ j, 0 ≤ u.2 j ∧ u.2 j ≤ 199)) (fun u => wX ad cI cB T u.1 (lc T, u.2, O.2.2.1, O.2.2.2)) := by
  refine MI.of RX0 (by decide) rfl (Nat.le_of_ble_eq_true rfl) [(0, .ref (ad 0)), (1, .int (zI i))] rfl ?_
  intro p e s m args below meth c A Q E ret ls h hl
  refine z_aload_n E dX0_atom_0 hl 0 rfl ?_
  refine z_callv (n := 0) (rest := []) E h (mX_findFirst l D ad cI cB T C O  hT hI hO) q186 q188 qs15 q33 q189 (by decide +kernel) ⟨Nat.le_of_ble_eq_true rfl, Nat.le_of_ble_eq_true rfl⟩ ⟨Nat.le_refl _, Nat.le_refl _⟩ rfl rfl rfl hl.1 (Nat.le_of_ble_eq_true rfl) rfl dX0_atom_1 (fun ur1 H locs er1 h => ?_)
  obtain ⟨Cr1, pr1⟩ := ur1
  dsimp only at er1
  obtain ⟨hIr1, hPr1, hBr1⟩ := er1
  have hCr1 := hIr1.1
  have hlb := lc_bd T
  have h : ZH D A s.heap (wX ad cI cB T Cr1 (lc T, pr1, O.2.2.1, O.2.2.2)) H locs := h
  refine z_iload_n E dX0_atom_4 hl 1 rfl ?_
  refine z_if_lt E 16 dX0_atom_5 (by decide) (by omega) (fun c1 => ?_) (fun c1 => ?_)
  · have c1 : (i : Int) < (0 : Int) := c1
    refine z_bipush E dX0_atom_16 (by decide +kernel) ?_
    refine z_goto E 27 dX0_atom_18 (by decide) ?_
    exact ret (Cr1, pr1) dX0_atom_27 rfl (⟨by rw [if_pos (by omega)], hIr1, hBr1⟩) h
  · have c1 : (0 : Int) ≤ (i : Int) := c1
    refine z_iload_n E dX0_atom_8 hl 1 rfl ?_
    refine z_aload_n E dX0_atom_9 hl 0 rfl ?_
    refine gX_at_ (at_ := lc T) E h dX0_atom_10 ?_
    have b1 := lc_bd T
    refine z_icmp_lt E 21 dX0_atom_13 (by decide) (by omega) (fun c2 => ?_) (fun c2 => ?_)
    · have c2 : (i : Int) < (lc T : Int) := c2
      refine z_aload_n E dX0_atom_21 hl 0 rfl ?_
      refine gX_pr E h dX0_atom_22 ?_
      refine z_iload_n E dX0_atom_25 hl 1 rfl ?_
      refine lX_pr E h (by omega) dX0_atom_26 (fun x1 ex1 => ?_)
      have ex1 : x1 = pr1 i := ex1
      have b2 := hBr1 i
      exact ret (Cr1, pr1) dX0_atom_27 rfl (⟨by rw [if_neg (by omega), ex1]; exact hPr1 i (by omega) (by omega), hIr1, hBr1⟩) h
    · have c2 : (lc T : Int) ≤ (i : Int) := c2
      refine z_bipush E dX0_atom_16 (by decide +kernel) ?_
      refine z_goto E 27 dX0_atom_18 (by decide) ?_
      exact ret (Cr1, pr1) dX0_atom_27 rfl (⟨by rw [if_pos (by omega)], hIr1, hBr1⟩) h
set_option maxHeartbeats 4000000 in
set_option maxRecDepth 100000 in
theorem mX_waysForQuery (l : Launch) (D : va_G) (ad : Nat → Nat) (cI cB : ClassId) (T : TT) (C : CC) (O : OO) (hT : TOk T) (hI : CInv T C) : MI l D [(cI, .int), (cB, .byte)] yX0_waysForQuery cX0_waysForQuery 2 .int 7 169 [.ref (ad 0)] (wX ad cI cB T C O) (fun z (u : CC) => z = wq T ∧ CInv T u) (fun u => wX ad cI cB T u O) := by
  refine MI.of RX0 (by decide) rfl (Nat.le_of_ble_eq_true rfl) [(0, .ref (ad 0))] rfl ?_
  intro p e s m args below meth c A Q E ret ls h hl
  refine z_aload_n E dX0_waysForQuery_0 hl 0 rfl ?_
  refine z_call (n := 0) (rest := []) E h (mX_leastCount l D ad cI cB T C O  hT hI) q120 q122 qs2 q33 q123 (by decide +kernel) ⟨Nat.le_of_ble_eq_true rfl, Nat.le_of_ble_eq_true rfl⟩ ⟨Nat.le_refl _, Nat.le_refl _⟩ rfl rfl rfl hl.1 (Nat.le_of_ble_eq_true rfl) rfl dX0_waysForQuery_1 (fun r1 ur1 H locs er1 h => ?_)
  obtain ⟨hzr1, hIr1, hLr1, hWr1⟩ := er1
  subst hzr1
  have hCr1 := hIr1.1
  have hlb := lc_bd T
  have h : ZH D A s.heap (wX ad cI cB T ur1 O) H locs := h
  refine z_istore_n E [(0, .ref (ad 0)), (1, .int (zI (lc T)))] dX0_waysForQuery_4 hl (by decide) [1, 0] rfl (fun ls hl => ?_)
  refine z_iload_n E dX0_waysForQuery_5 hl 1 rfl ?_
  refine z_if_ne E 11 dX0_waysForQuery_6 (by decide) (by omega) (fun c1 => ?_) (fun c1 => ?_)
  · have c1 : (lc T : Int) ≠ (0 : Int) := c1
    refine z_aload_n E dX0_waysForQuery_11 hl 0 rfl ?_
    refine z_iconst E dX0_waysForQuery_12 ?_
    refine z_callv (n := 1) (rest := []) E h (mX_count l D ad cI cB T ur1 O 2 hT hIr1 (by omega)) q124 q126 qs3 q33 q127 (by decide +kernel) ⟨Nat.le_of_ble_eq_true rfl, Nat.le_of_ble_eq_true rfl⟩ ⟨Nat.le_refl _, Nat.le_refl _⟩ rfl rfl rfl hl.1 (Nat.le_of_ble_eq_true rfl) rfl dX0_waysForQuery_13 (fun ur2 H locs er2 h => ?_)
    obtain ⟨hIr2, hLr2, hWr2⟩ := er2
    have hCr2 := hIr2.1
    have h : ZH D A s.heap (wX ad cI cB T ur2 O) H locs := h
    refine z_aload_n E dX0_waysForQuery_16 hl 0 rfl ?_
    refine gX_wy E h dX0_waysForQuery_17 ?_
    refine z_iload_n E dX0_waysForQuery_20 hl 1 rfl ?_
    refine z_sipush E dX0_waysForQuery_21 (by decide +kernel) ?_
    refine z_imul E dX0_waysForQuery_24 ?_
    refine lX_wy E h (by omega) dX0_waysForQuery_25 (fun x1 ex1 => ?_)
    have ex1 : x1 = ur2.2.2.2.1 ((lc T) * 343) := ex1
    have b1 := hCr2.2.2.2.1 ((lc T) * 343)
    exact ret ur2 dX0_waysForQuery_26 rfl (⟨by unfold wq; rw [if_neg (by omega), ex1, ← hWr2 (lc T) 0 (by omega) (by omega) (by omega) (by omega), Int.add_zero], hIr2⟩) h
  · have c1 : (lc T : Int) = (0 : Int) := c1
    refine z_iconst E dX0_waysForQuery_9 ?_
    exact ret ur1 dX0_waysForQuery_10 rfl (⟨by unfold wq; rw [if_pos (by omega)], hIr1⟩) h
set_option maxHeartbeats 4000000 in
set_option maxRecDepth 100000 in
theorem mX_can (l : Launch) (D : va_G) (ad : Nat → Nat) (cI cB : ClassId) (T : TT) (C : CC) (O : OO) (hT : TOk T) (hI : CInv T C) : MI l D [(cI, .int), (cB, .byte)] yX0_can cX0_can 2 .boolean 8 190 [.ref (ad 0)] (wX ad cI cB T C O) (fun z (u : CC) => z = (if 0 < wq T then 1 else 0) ∧ CInv T u) (fun u => wX ad cI cB T u O) := by
  refine MI.of RX0 (by decide) rfl (Nat.le_of_ble_eq_true rfl) [(0, .ref (ad 0))] rfl ?_
  intro p e s m args below meth c A Q E ret ls h hl
  refine z_aload_n E dX0_can_0 hl 0 rfl ?_
  refine z_call (n := 0) (rest := []) E h (mX_waysForQuery l D ad cI cB T C O  hT hI) q198 q200 qs17 q33 q201 (by decide +kernel) ⟨Nat.le_of_ble_eq_true rfl, Nat.le_of_ble_eq_true rfl⟩ ⟨Nat.le_refl _, Nat.le_refl _⟩ rfl rfl rfl hl.1 (Nat.le_of_ble_eq_true rfl) rfl dX0_can_1 (fun r1 ur1 H locs er1 h => ?_)
  obtain ⟨hzr1, hIr1⟩ := er1
  have hwb := wq_bd T
  have h : ZH D A s.heap (wX ad cI cB T ur1 O) H locs := h
  refine z_istore_n E [(0, .ref (ad 0)), (1, .int (zI r1))] dX0_can_4 hl (by decide) [1, 0] rfl (fun ls hl => ?_)
  refine z_iload_n E dX0_can_5 hl 1 rfl ?_
  refine z_if_le E 13 dX0_can_6 (by decide) (by omega) (fun c1 => ?_) (fun c1 => ?_)
  · have c1 : (r1 : Int) ≤ (0 : Int) := c1
    refine z_iconst E dX0_can_13 ?_
    exact ret ur1 dX0_can_14 (zI_bool (by omega)).1 (⟨by rw [if_neg (by omega)], hIr1⟩) h
  · have c1 : (0 : Int) < (r1 : Int) := c1
    refine z_iconst E dX0_can_9 ?_
    refine z_goto E 14 dX0_can_10 (by decide) ?_
    exact ret ur1 dX0_can_14 (zI_bool (by omega)).1 (⟨by rw [if_pos (by omega)], hIr1⟩) h
set_option maxHeartbeats 4000000 in
set_option maxRecDepth 100000 in
theorem mX_ways (l : Launch) (D : va_G) (ad : Nat → Nat) (cI cB : ClassId) (T : TT) (C : CC) (O : OO) (hT : TOk T) (hI : CInv T C) : MI l D [(cI, .int), (cB, .byte)] yX0_ways cX0_ways 1 .int 8 190 [.ref (ad 0)] (wX ad cI cB T C O) (fun z (u : CC) => z = wq T ∧ CInv T u) (fun u => wX ad cI cB T u O) := by
  refine MI.of RX0 (by decide) rfl (Nat.le_of_ble_eq_true rfl) [(0, .ref (ad 0))] rfl ?_
  intro p e s m args below meth c A Q E ret ls h hl
  refine z_aload_n E dX0_ways_0 hl 0 rfl ?_
  refine z_call (n := 0) (rest := []) E h (mX_waysForQuery l D ad cI cB T C O  hT hI) q198 q200 qs17 q33 q201 (by decide +kernel) ⟨Nat.le_of_ble_eq_true rfl, Nat.le_of_ble_eq_true rfl⟩ ⟨Nat.le_refl _, Nat.le_refl _⟩ rfl rfl rfl hl.1 (Nat.le_of_ble_eq_true rfl) rfl dX0_ways_1 (fun r1 ur1 H locs er1 h => ?_)
  obtain ⟨hzr1, hIr1⟩ := er1
  have hwb := wq_bd T
  have h : ZH D A s.heap (wX ad cI cB T ur1 O) H locs := h
  exact ret ur1 dX0_ways_4 rfl (⟨hzr1, hIr1⟩) h
set_option maxHeartbeats 4000000 in
set_option maxRecDepth 100000 in
theorem mX_run (l : Launch) (D : va_G) (ad : Nat → Nat) (cI cB : ClassId) (T : TT) (C : CC) (O : OO) (hT : TOk T) (hI : CInv T C) (hO : OB O) : MI l D [(cI, .int), (cB, .byte)] yX0_run cX0_run 4 .boolean 8 192 [.ref (ad 0)] (wX ad cI cB T C O) (fun z (u : CC × FF × Int × FF) => (z = 0 ∨ z = 1) ∧ (z = 1 ↔ okR T) ∧ (z = 1 → u.2.2.1 = off T (lc T) ∧ ∀ j, 0 ≤ j → j < off T (lc T) → u.2.2.2 j = rF T j) ∧ CInv T u.1 ∧ (∀ j, 0 ≤ u.2.1 j ∧ u.2.1 j ≤ 199) ∧ (0 ≤ u.2.2.1 ∧ u.2.2.1 ≤ 18)) (fun u => wX ad cI cB T u.1 (lc T, u.2.1, u.2.2.1, u.2.2.2)) := by
  refine MI.of RX0 (by decide) rfl (Nat.le_of_ble_eq_true rfl) [(0, .ref (ad 0))] rfl ?_
  intro p e s m args below meth c A Q E ret ls h hl
  refine z_aload_n E dX0_run_0 hl 0 rfl ?_
  refine z_callv (n := 0) (rest := []) E h (mX_findFirst l D ad cI cB T C O  hT hI hO) q186 q188 qs15 q33 q189 (by decide +kernel) ⟨Nat.le_of_ble_eq_true rfl, Nat.le_of_ble_eq_true rfl⟩ ⟨Nat.le_refl _, Nat.le_refl _⟩ rfl rfl rfl hl.1 (Nat.le_of_ble_eq_true rfl) rfl dX0_run_1 (fun ur1 H locs er1 h => ?_)
  obtain ⟨Cr1, pr1⟩ := ur1
  dsimp only at er1
  obtain ⟨hIr1, hPr1, hBr1⟩ := er1
  have hCr1 := hIr1.1
  have hlb := lc_bd T
  have h : ZH D A s.heap (wX ad cI cB T Cr1 (lc T, pr1, O.2.2.1, O.2.2.2)) H locs := h
  refine z_aload_n E dX0_run_4 hl 0 rfl ?_
  refine gX_at_ (at_ := lc T) E h dX0_run_5 ?_
  have b1 := lc_bd T
  refine z_if_ne E 13 dX0_run_8 (by decide) (by omega) (fun c1 => ?_) (fun c1 => ?_)
  · have c1 : (lc T : Int) ≠ (0 : Int) := c1
    refine z_aload_n E dX0_run_13 hl 0 rfl ?_
    refine z_iconst E dX0_run_14 ?_
    refine pX_rs E h dX0_run_15 (fun H locs h => ?_)
    have h : ZH D A s.heap (wX ad cI cB T Cr1 (lc T, pr1, 0, O.2.2.2)) H locs := h
    refine z_iconst E dX0_run_18 ?_
    refine z_istore_n E [(0, .ref (ad 0)), (1, .int (zI 0))] dX0_run_19 hl (by decide) [1, 0] rfl (fun ls hl => ?_)
    have loop20 : ∀ (n20 : Nat) (i : Int) (rs : Int) (gv : FF) (H : Heap) (locs : List Loc) (ls : Array Slot), (lc T - i) < (n20 : Int) → (0 ≤ i ∧ i ≤ lc T) → (rs = off T i) → (∀ q, 0 ≤ q → q < i → 0 < rz T q) → (∀ j, 0 ≤ j → j < rs → gv j = rF T j) → ZH D A s.heap (wX ad cI cB T Cr1 (lc T, pr1, rs, gv)) H locs → lv_has ls 4 [(0, .ref (ad 0)), (1, .int (zI i))] → W p l e ({ frames := 8, cells := 0, slots := 0, locals := 192 } : Room) s m args below meth c H locs 0 0 Q (F0 m 20 ls []) := by
      intro n20
      induction n20 with
      | zero =>
        intro i rs gv H locs ls hm20 hi hrs hsz hgv h hl
        exfalso; omega
      | succ n20 ih20 =>
        intro i rs gv H locs ls hm20 hi hrs hsz hgv h hl
        have hob := off_bd hT hi
        refine z_iload_n E dX0_run_20 hl 1 rfl ?_
        refine z_aload_n E dX0_run_21 hl 0 rfl ?_
        refine gX_at_ (at_ := lc T) E h dX0_run_22 ?_
        have b2 := lc_bd T
        refine z_icmp_ge E 96 dX0_run_25 (by decide) (by omega) (fun c2 => ?_) (fun c2 => ?_)
        · have c2 : (lc T : Int) ≤ (i : Int) := c2
          refine z_iconst E dX0_run_96 ?_
          exact ret (Cr1, pr1, rs, gv) dX0_run_97 (zI_bool (by omega)).1 (⟨by omega, ⟨fun q => ⟨by omega, fun q a b => hsz q a (by omega)⟩, fun q => rfl⟩, fun q => ⟨by show rs = off T (lc T); rw [hrs]; congr 1; omega, fun j a b => hgv j a (by rw [hrs, show i = lc T by omega]; exact b)⟩, hIr1, hBr1, by show 0 ≤ rs ∧ rs ≤ 18; omega⟩) h
        · have c2 : (i : Int) < (lc T : Int) := c2
          refine z_aload_n E dX0_run_28 hl 0 rfl ?_
          refine z_iconst E dX0_run_29 ?_
          refine z_aload_n E dX0_run_30 hl 0 rfl ?_
          refine gX_pr E h dX0_run_31 ?_
          refine z_iload_n E dX0_run_34 hl 1 rfl ?_
          refine lX_pr E h (by omega) dX0_run_35 (fun x1 ex1 => ?_)
          have ex1 : x1 = pr1 i := ex1
          have b3 := hBr1 i
          refine z_call (n := 2) (rest := []) E h (mX_sizeOf l D ad cI cB T Cr1 (lc T, pr1, rs, gv) 2 x1 hT (by omega) (by omega)) q136 q138 qs6 q33 q139 (by decide +kernel) ⟨Nat.le_of_ble_eq_true rfl, Nat.le_of_ble_eq_true rfl⟩ ⟨Nat.le_refl _, Nat.le_refl _⟩ rfl rfl rfl hl.1 (Nat.le_of_ble_eq_true rfl) rfl dX0_run_36 (fun r2 ur2 H locs er2 h => ?_)
          have br2 := szA_bd (hT.2.1 2) (show 0 ≤ x1 by omega)
          have h : ZH D A s.heap (wX ad cI cB T Cr1 (lc T, pr1, rs, gv)) H locs := h
          refine z_istore_n E [(0, .ref (ad 0)), (1, .int (zI i)), (2, .int (zI r2))] dX0_run_39 hl (by decide) [1, 2, 0] rfl (fun ls hl => ?_)
          have hrz : r2 = rz T i := by rw [er2, ex1, hPr1 i (by omega) (by omega)]; rfl
          refine z_iload_n E dX0_run_40 hl 2 rfl ?_
          refine z_if_ne E 46 dX0_run_41 (by decide) (by omega) (fun c3 => ?_) (fun c3 => ?_)
          · have c3 : (r2 : Int) ≠ (0 : Int) := c3
            refine z_iconst E dX0_run_46 ?_
            refine z_istore_n E [(0, .ref (ad 0)), (1, .int (zI i)), (2, .int (zI r2)), (3, .int (zI 0))] dX0_run_47 hl (by decide) [1, 2, 3, 0] rfl (fun ls hl => ?_)
            have loop48 : ∀ (n48 : Nat) (k : Int) (rs : Int) (gv : FF) (H : Heap) (locs : List Loc) (ls : Array Slot), (r2 - k) < (n48 : Int) → (0 ≤ k ∧ k ≤ r2) → (rs = off T i + k) → (∀ j, 0 ≤ j → j < rs → gv j = rF T j) → ZH D A s.heap (wX ad cI cB T Cr1 (lc T, pr1, rs, gv)) H locs → lv_has ls 4 [(0, .ref (ad 0)), (1, .int (zI i)), (2, .int (zI r2)), (3, .int (zI k))] → W p l e ({ frames := 8, cells := 0, slots := 0, locals := 192 } : Room) s m args below meth c H locs 0 0 Q (F0 m 48 ls []) := by
              intro n48
              induction n48 with
              | zero =>
                intro k rs gv H locs ls hm48 hk hrs2 hgv2 h hl
                exfalso; omega
              | succ n48 ih48 =>
                intro k rs gv H locs ls hm48 hk hrs2 hgv2 h hl
                refine z_iload_n E dX0_run_48 hl 3 rfl ?_
                refine z_iload_n E dX0_run_49 hl 2 rfl ?_
                refine z_icmp_ge E 90 dX0_run_50 (by decide) (by omega) (fun c4 => ?_) (fun c4 => ?_)
                · have c4 : (r2 : Int) ≤ (k : Int) := c4
                  refine z_iinc E [(0, .ref (ad 0)), (1, .int (zI (i + 1))), (2, .int (zI r2)), (3, .int (zI k))] dX0_run_90 hl 1 rfl (by decide) [1, 0, 2, 3] rfl (fun ls hl => ?_)
                  refine z_goto E 20 dX0_run_93 (by decide) ?_
                  exact ih20 (i + 1) rs gv _ _ _ (by omega) (by omega) (by rw [off_s _ (by omega), hrs2]; omega) (fun q a b => by
          by_cases e : q = i
          · rw [e]; omega
          · exact hsz q a (by omega)) (hgv2) h (lv_sub hl [0, 1] rfl)
                · have c4 : (k : Int) < (r2 : Int) := c4
                  refine z_aload_n E dX0_run_53 hl 0 rfl ?_
                  refine gX_gv E h dX0_run_54 ?_
                  refine z_aload_n E dX0_run_57 hl 0 rfl ?_
                  refine gX_rs (rs := rs) E h dX0_run_58 ?_
                  refine z_aload_n E dX0_run_61 hl 0 rfl ?_
                  refine z_iconst E dX0_run_62 ?_
                  refine z_aload_n E dX0_run_63 hl 0 rfl ?_
                  refine gX_pr E h dX0_run_64 ?_
                  refine z_iload_n E dX0_run_67 hl 1 rfl ?_
                  refine lX_pr E h (by omega) dX0_run_68 (fun x2 ex2 => ?_)
                  have ex2 : x2 = pr1 i := ex2
                  have b4 := hBr1 i
                  refine z_iload_n E dX0_run_69 hl 3 rfl ?_
                  refine z_call (n := 3) (rest := [.int (zI rs), .ref (ad 8)]) E h (mX_letterOf l D ad cI cB T Cr1 (lc T, pr1, rs, gv) 2 x2 k hT (by omega) (by omega) (by rw [ex2, ← ex1, ← er2]; omega)) q154 q156 qs9 q33 q157 (by decide +kernel) ⟨Nat.le_of_ble_eq_true rfl, Nat.le_of_ble_eq_true rfl⟩ ⟨Nat.le_refl _, Nat.le_refl _⟩ rfl rfl rfl hl.1 (Nat.le_of_ble_eq_true rfl) rfl dX0_run_70 (fun r3 ur3 H locs er3 h => ?_)
                  have br3 := ltA_bd hT (n := T.2.1 2) (pr := 2) (i := k) (show 0 ≤ x2 ∧ x2 < 200 by omega)
                  have h : ZH D A s.heap (wX ad cI cB T Cr1 (lc T, pr1, rs, gv)) H locs := h
                  refine sX_gv E h (by omega) dX0_run_73 (fun H locs h => ?_)
                  have h : ZH D A s.heap (wX ad cI cB T Cr1 (lc T, pr1, rs, up gv rs r3)) H locs := h
                  refine z_aload_n E dX0_run_74 hl 0 rfl ?_
                  refine z_dup E dX0_run_75 rfl ?_
                  refine gX_rs (rs := rs) E h dX0_run_76 ?_
                  refine z_iconst E dX0_run_79 ?_
                  refine z_iadd E dX0_run_80 ?_
                  refine pX_rs E h dX0_run_81 (fun H locs h => ?_)
                  have h : ZH D A s.heap (wX ad cI cB T Cr1 (lc T, pr1, rs + 1, up gv rs r3)) H locs := h
                  refine z_iinc E [(0, .ref (ad 0)), (1, .int (zI i)), (2, .int (zI r2)), (3, .int (zI (k + 1)))] dX0_run_84 hl 3 rfl (by decide) [1, 2, 3, 0] rfl (fun ls hl => ?_)
                  refine z_goto E 48 dX0_run_87 (by decide) ?_
                  exact ih48 (k + 1) (rs + 1) (up gv rs r3) _ _ _ (by omega) (by omega) (by omega) (up_ext hgv2 (by rw [hrs2, rF_at hT (by omega) (by omega), er3, ex2, hPr1 i (by omega) (by omega)]; rfl)) h (lv_sub hl [0, 1, 2, 3] rfl)
            exact loop48 100 0 rs gv _ _ _ (by omega) (by omega) (by omega) (hgv) h (lv_sub hl [0, 1, 2, 3] rfl)
          · have c3 : (r2 : Int) = (0 : Int) := c3
            refine z_iconst E dX0_run_44 ?_
            exact ret (Cr1, pr1, rs, gv) dX0_run_45 (zI_bool (by omega)).1 (⟨by omega, ⟨fun q => by omega, fun q => by have := q.2 i (by omega) (by omega); omega⟩, fun q => by omega, hIr1, hBr1, by show 0 ≤ rs ∧ rs ≤ 18; omega⟩) h
    exact loop20 10 0 0 O.2.2.2 _ _ _ (by omega) (by omega) ((off_0 T).symm) (fun q a b => by omega) (fun j a b => by omega) h (lv_sub hl [0, 1] rfl)
  · have c1 : (lc T : Int) = (0 : Int) := c1
    refine z_iconst E dX0_run_11 ?_
    exact ret (Cr1, pr1, O.2.2.1, O.2.2.2) dX0_run_12 (zI_bool (by omega)).1 (⟨by omega, ⟨fun q => by omega, fun q => by have := q.1; omega⟩, fun q => by omega, hIr1, hBr1, hO.2.2⟩) h
set_option maxHeartbeats 4000000 in
set_option maxRecDepth 100000 in
theorem mX_resultLength (l : Launch) (D : va_G) (ad : Nat → Nat) (cI cB : ClassId) (T : TT) (C : CC) (O : OO) (hT : TOk T) (hI : CInv T C) (hO : OB O) : MI l D [(cI, .int), (cB, .byte)] yX0_resultLength cX0_resultLength 2 .int 9 215 [.ref (ad 0)] (wX ad cI cB T C O) (fun z (u : CC × FF × Int × FF) => z = rl T ∧ CInv T u.1 ∧ (∀ j, 0 ≤ u.2.1 j ∧ u.2.1 j ≤ 199) ∧ (0 ≤ u.2.2.1 ∧ u.2.2.1 ≤ 18)) (fun u => wX ad cI cB T u.1 (lc T, u.2.1, u.2.2.1, u.2.2.2)) := by
  refine MI.of RX0 (by decide) rfl (Nat.le_of_ble_eq_true rfl) [(0, .ref (ad 0))] rfl ?_
  intro p e s m args below meth c A Q E ret ls h hl
  refine z_aload_n E dX0_resultLength_0 hl 0 rfl ?_
  refine z_call (n := 0) (rest := []) E h (mX_run l D ad cI cB T C O  hT hI hO) q210 q212 qs18 q33 q213 (by decide +kernel) ⟨Nat.le_of_ble_eq_true rfl, Nat.le_of_ble_eq_true rfl⟩ ⟨Nat.le_refl _, Nat.le_refl _⟩ rfl rfl rfl hl.1 (Nat.le_of_ble_eq_true rfl) rfl dX0_resultLength_1 (fun r1 ur1 H locs er1 h => ?_)
  obtain ⟨Cr1, pr1, sr1, gr1⟩ := ur1
  dsimp only at er1
  obtain ⟨hzr1, hkr1, hvr1, hIr1, hBr1, hSr1⟩ := er1
  have h : ZH D A s.heap (wX ad cI cB T Cr1 (lc T, pr1, sr1, gr1)) H locs := h
  refine z_istore_n E [(0, .ref (ad 0)), (1, .int (zI r1))] dX0_resultLength_4 hl (by decide) [1, 0] rfl (fun ls hl => ?_)
  refine z_iload_n E dX0_resultLength_5 hl 1 rfl ?_
  refine z_if_eq E 16 dX0_resultLength_6 (by decide) (by omega) (fun c1 => ?_) (fun c1 => ?_)
  · have c1 : (r1 : Int) = (0 : Int) := c1
    refine z_bipush E dX0_resultLength_16 (by decide +kernel) ?_
    exact ret (Cr1, pr1, sr1, gr1) dX0_resultLength_18 rfl (⟨(rl_n (fun q => by have := hkr1.mpr q; omega)).symm, hIr1, hBr1, hSr1⟩) h
  · have c1 : (r1 : Int) ≠ (0 : Int) := c1
    refine z_aload_n E dX0_resultLength_9 hl 0 rfl ?_
    refine gX_rs (rs := sr1) E h dX0_resultLength_10 ?_
    have b1 := hSr1
    refine z_goto E 18 dX0_resultLength_13 (by decide) ?_
    exact ret (Cr1, pr1, sr1, gr1) dX0_resultLength_18 rfl (⟨by rw [rl_y (hkr1.mp (by omega))]; exact (hvr1 (by omega)).1, hIr1, hBr1, hSr1⟩) h
set_option maxHeartbeats 4000000 in
set_option maxRecDepth 100000 in
theorem mX_result (l : Launch) (D : va_G) (ad : Nat → Nat) (cI cB : ClassId) (T : TT) (C : CC) (O : OO) (i : Int) (hT : TOk T) (hI : CInv T C) (hO : OB O) (hr : -2147483648 ≤ i ∧ i ≤ 2147483647) : MI l D [(cI, .int), (cB, .byte)] yX0_result cX0_result 3 .int 9 215 [.ref (ad 0), .int (zI i)] (wX ad cI cB T C O) (fun z (u : CC × FF × Int × FF) => z = rv T i ∧ CInv T u.1 ∧ (∀ j, 0 ≤ u.2.1 j ∧ u.2.1 j ≤ 199) ∧ (0 ≤ u.2.2.1 ∧ u.2.2.1 ≤ 18)) (fun u => wX ad cI cB T u.1 (lc T, u.2.1, u.2.2.1, u.2.2.2)) := by
  refine MI.of RX0 (by decide) rfl (Nat.le_of_ble_eq_true rfl) [(0, .ref (ad 0)), (1, .int (zI i))] rfl ?_
  intro p e s m args below meth c A Q E ret ls h hl
  refine z_aload_n E dX0_result_0 hl 0 rfl ?_
  refine z_call (n := 0) (rest := []) E h (mX_run l D ad cI cB T C O  hT hI hO) q210 q212 qs18 q33 q213 (by decide +kernel) ⟨Nat.le_of_ble_eq_true rfl, Nat.le_of_ble_eq_true rfl⟩ ⟨Nat.le_refl _, Nat.le_refl _⟩ rfl rfl rfl hl.1 (Nat.le_of_ble_eq_true rfl) rfl dX0_result_1 (fun r1 ur1 H locs er1 h => ?_)
  obtain ⟨Cr1, pr1, sr1, gr1⟩ := ur1
  dsimp only at er1
  obtain ⟨hzr1, hkr1, hvr1, hIr1, hBr1, hSr1⟩ := er1
  have h : ZH D A s.heap (wX ad cI cB T Cr1 (lc T, pr1, sr1, gr1)) H locs := h
  refine z_istore_n E [(0, .ref (ad 0)), (1, .int (zI i)), (2, .int (zI r1))] dX0_result_4 hl (by decide) [1, 2, 0] rfl (fun ls hl => ?_)
  refine z_iload_n E dX0_result_5 hl 2 rfl ?_
  refine z_if_eq E 21 dX0_result_6 (by decide) (by omega) (fun c1 => ?_) (fun c1 => ?_)
  · have c1 : (r1 : Int) = (0 : Int) := c1
    refine z_bipush E dX0_result_21 (by decide +kernel) ?_
    refine z_goto E 32 dX0_result_23 (by decide) ?_
    exact ret (Cr1, pr1, sr1, gr1) dX0_result_32 rfl (⟨(rv_n (fun q => by have := hkr1.mpr q.1; omega)).symm, hIr1, hBr1, hSr1⟩) h
  · have c1 : (r1 : Int) ≠ (0 : Int) := c1
    refine z_iload_n E dX0_result_9 hl 1 rfl ?_
    refine z_if_lt E 21 dX0_result_10 (by decide) (by omega) (fun c2 => ?_) (fun c2 => ?_)
    · have c2 : (i : Int) < (0 : Int) := c2
      refine z_bipush E dX0_result_21 (by decide +kernel) ?_
      refine z_goto E 32 dX0_result_23 (by decide) ?_
      exact ret (Cr1, pr1, sr1, gr1) dX0_result_32 rfl (⟨(rv_n (fun q => by omega)).symm, hIr1, hBr1, hSr1⟩) h
    · have c2 : (0 : Int) ≤ (i : Int) := c2
      refine z_iload_n E dX0_result_13 hl 1 rfl ?_
      refine z_aload_n E dX0_result_14 hl 0 rfl ?_
      refine gX_rs (rs := sr1) E h dX0_result_15 ?_
      have b1 := hSr1
      refine z_icmp_lt E 26 dX0_result_18 (by decide) (by omega) (fun c3 => ?_) (fun c3 => ?_)
      · have c3 : (i : Int) < (sr1 : Int) := c3
        refine z_aload_n E dX0_result_26 hl 0 rfl ?_
        refine gX_gv E h dX0_result_27 ?_
        refine z_iload_n E dX0_result_30 hl 1 rfl ?_
        refine lX_gv E h (by omega) dX0_result_31 (fun x1 ex1 => ?_)
        have ex1 : x1 = gr1 i := ex1
        exact ret (Cr1, pr1, sr1, gr1) dX0_result_32 rfl (⟨by rw [rv_y ⟨hkr1.mp (by omega), by omega, by have := (hvr1 (by omega)).1; omega⟩, ex1]; exact (hvr1 (by omega)).2 i (by omega) (by have := (hvr1 (by omega)).1; omega), hIr1, hBr1, hSr1⟩) h
      · have c3 : (sr1 : Int) ≤ (i : Int) := c3
        refine z_bipush E dX0_result_21 (by decide +kernel) ?_
        refine z_goto E 32 dX0_result_23 (by decide) ?_
        exact ret (Cr1, pr1, sr1, gr1) dX0_result_32 rfl (⟨(rv_n (fun q => by have := (hvr1 (by omega)).1; omega)).symm, hIr1, hBr1, hSr1⟩) h
set_option maxHeartbeats 4000000 in
set_option maxRecDepth 100000 in
theorem mX_right (l : Launch) (D : va_G) (ad : Nat → Nat) (cI cB : ClassId) (T : TT) (C : CC) (O : OO) (atom : Int) (hT : TOk T) (hI : CInv T C) (hr : -2147483648 ≤ atom ∧ atom ≤ 2147483647) : MI l D [(cI, .int), (cB, .byte)] yX0_right cX0_right 3 .boolean 6 148 [.ref (ad 0), .int (zI atom)] (wX ad cI cB T C O) (fun z (u : CC) => (z = 0 ∨ z = 1) ∧ (z = 1 ↔ 0 ≤ atom ∧ atom < 200 ∧ stp T 0 0 atom = lst T 0) ∧ CInv T u) (fun u => wX ad cI cB T u O) := by
  refine MI.of RX0 (by decide) rfl (Nat.le_of_ble_eq_true rfl) [(0, .ref (ad 0)), (1, .int (zI atom))] rfl ?_
  intro p e s m args below meth c A Q E ret ls h hl
  refine z_iload_n E dX0_right_0 hl 1 rfl ?_
  refine z_if_lt E 11 dX0_right_1 (by decide) (by omega) (fun c1 => ?_) (fun c1 => ?_)
  · have c1 : (atom : Int) < (0 : Int) := c1
    refine z_iconst E dX0_right_11 ?_
    exact ret C dX0_right_12 (zI_bool (by omega)).1 (⟨by omega, ⟨fun q => by omega, fun q => by omega⟩, hI⟩) h
  · have c1 : (0 : Int) ≤ (atom : Int) := c1
    refine z_iload_n E dX0_right_4 hl 1 rfl ?_
    refine z_sipush E dX0_right_5 (by decide +kernel) ?_
    refine z_icmp_lt E 13 dX0_right_8 (by decide) (by omega) (fun c2 => ?_) (fun c2 => ?_)
    · have c2 : (atom : Int) < (200 : Int) := c2
      refine z_aload_n E dX0_right_13 hl 0 rfl ?_
      refine z_iconst E dX0_right_14 ?_
      refine z_callv (n := 1) (rest := []) E h (mX_count l D ad cI cB T C O 0 hT hI (by omega)) q124 q126 qs3 q33 q127 (by decide +kernel) ⟨Nat.le_of_ble_eq_true rfl, Nat.le_of_ble_eq_true rfl⟩ ⟨Nat.le_refl _, Nat.le_refl _⟩ rfl rfl rfl hl.1 (Nat.le_of_ble_eq_true rfl) rfl dX0_right_15 (fun ur1 H locs er1 h => ?_)
      obtain ⟨hIr1, hLr1, hWr1⟩ := er1
      have hCr1 := hIr1.1
      have h : ZH D A s.heap (wX ad cI cB T ur1 O) H locs := h
      refine z_aload_n E dX0_right_18 hl 0 rfl ?_
      refine z_iconst E dX0_right_19 ?_
      refine z_iload_n E dX0_right_20 hl 1 rfl ?_
      refine z_iconst E dX0_right_21 ?_
      refine z_call (n := 3) (rest := []) E h (mX_step l D ad cI cB T ur1 O 0 atom 0 hT hCr1 hLr1 (by omega) (by omega) (by omega)) q170 q172 qs13 q33 q173 (by decide +kernel) ⟨Nat.le_of_ble_eq_true rfl, Nat.le_of_ble_eq_true rfl⟩ ⟨Nat.le_refl _, Nat.le_refl _⟩ rfl rfl rfl hl.1 (Nat.le_of_ble_eq_true rfl) rfl dX0_right_22 (fun r2 ur2 H locs er2 h => ?_)
      have br2 := stp_bd hT (ty := 0) (a := atom) (show 0 ≤ 0 ∧ 0 < 343 by omega)
      have h : ZH D A s.heap (wX ad cI cB T ur1 O) H locs := h
      refine z_istore_n E [(0, .ref (ad 0)), (1, .int (zI atom)), (2, .int (zI r2))] dX0_right_25 hl (by decide) [1, 2, 0] rfl (fun ls hl => ?_)
      refine z_iload_n E dX0_right_26 hl 2 rfl ?_
      refine z_aload_n E dX0_right_27 hl 0 rfl ?_
      refine z_iconst E dX0_right_28 ?_
      refine z_call (n := 1) (rest := [.int (zI r2)]) E h (mX_lastNode l D ad cI cB T ur1 O 0 hT (by omega)) q158 q160 qs10 q33 q161 (by decide +kernel) ⟨Nat.le_of_ble_eq_true rfl, Nat.le_of_ble_eq_true rfl⟩ ⟨Nat.le_refl _, Nat.le_refl _⟩ rfl rfl rfl hl.1 (Nat.le_of_ble_eq_true rfl) rfl dX0_right_29 (fun r3 ur3 H locs er3 h => ?_)
      have br3 := lst_bd hT (ty := 0)
      have h : ZH D A s.heap (wX ad cI cB T ur1 O) H locs := h
      refine z_icmp_ne E 39 dX0_right_32 (by decide) (by omega) (fun c3 => ?_) (fun c3 => ?_)
      · have c3 : (r2 : Int) ≠ (r3 : Int) := c3
        refine z_iconst E dX0_right_39 ?_
        exact ret ur1 dX0_right_40 (zI_bool (by omega)).1 (⟨by omega, ⟨fun q => by omega, fun q => by omega⟩, hIr1⟩) h
      · have c3 : (r2 : Int) = (r3 : Int) := c3
        refine z_iconst E dX0_right_35 ?_
        refine z_goto E 40 dX0_right_36 (by decide) ?_
        exact ret ur1 dX0_right_40 (zI_bool (by omega)).1 (⟨by omega, ⟨fun q => by omega, fun q => by omega⟩, hIr1⟩) h
    · have c2 : (200 : Int) ≤ (atom : Int) := c2
      refine z_iconst E dX0_right_11 ?_
      exact ret C dX0_right_12 (zI_bool (by omega)).1 (⟨by omega, ⟨fun q => by omega, fun q => by omega⟩, hI⟩) h
end
section
theorem sumA_cong {f g : FF} : ∀ n : Nat, (∀ a : Int, 0 ≤ a → a < n → f a = g a) → sumA f n = sumA g n
  | 0, _ => rfl
  | n + 1, h => by
    simp only [sumA]
    rw [sumA_cong n (fun a x y => h a x (by omega)), h n (by omega) (by omega)]
def Ag (T T' : TT) (pr : Int) : Prop := T'.2.1 pr = T.2.1 pr ∧ T'.2.2.1 pr = T.2.2.1 pr ∧ ∀ j, pr * 6 ≤ j → j < pr * 6 + 6 → T'.2.2.2.1 j = T.2.2.2.1 j ∧ T'.2.2.2.2 j = T.2.2.2.2 j
theorem Ag.symm {T T' : TT} {pr : Int} (h : Ag T T' pr) : Ag T' T pr := ⟨h.1.symm, h.2.1.symm, fun j a b => ⟨(h.2.2 j a b).1.symm, (h.2.2 j a b).2.symm⟩⟩
theorem okA_of {T T' : TT} (hT : TOk T) {pr a f : Int} (ha : 0 ≤ a) (hf : 0 ≤ f) (g : Ag T T' pr) (h : okA T pr a f) : okA T' pr a f := by
  obtain ⟨h1, h2, h3⟩ := h
  obtain ⟨e1, e2, e3⟩ := g
  refine ⟨by rw [e1]; exact h1, by rw [e1, e2]; exact h2, fun i x y => ?_⟩
  rw [e1] at y ⊢
  have b := hT.2.2.1 pr
  rw [(e3 _ (by omega) (by omega)).2, ← h3 i x y]
  unfold ltA
  split
  · rfl
  · have z := szA_in (hT.2.1 pr) (show 4 ≤ a by omega) h1
    have zz := hT.2.1 pr
    exact (e3 _ (by omega) (by omega)).1
theorem ldA_cong {T T' : TT} (hT : TOk T) (hT' : TOk T') {pr a f : Int} (ha : 0 ≤ a) (hf : 0 ≤ f) (g : Ag T T' pr) : ldA T' pr a f = ldA T pr a f := by
  by_cases h : okA T pr a f
  · rw [ldA_y h, ldA_y (okA_of hT ha hf g h), g.1]
  · rw [ldA_n h, ldA_n (fun q => h (okA_of hT' ha hf g.symm q))]
theorem LRp_cong {T T' : TT} (hT : TOk T) (hT' : TOk T') {ld : FF} {pr : Int} (g : Ag T T' pr) (h : LRp T ld pr) : LRp T' ld pr := fun a f h1 h2 h3 h4 => by
  rw [h a f h1 h2 h3 h4, ldA_cong hT hT' h1 h3 g]
theorem stp_cong {T T' : TT} (hT : TOk T) (hT' : TOk T') (e : T'.1 = T.1) (g : ∀ pr, 0 ≤ pr → pr < T.1 → Ag T T' pr) {v a : Int} (hv : 0 ≤ v) (ha : 0 ≤ a) : stp T' 0 v a = stp T 0 v a := by
  have k : ∀ pr f, 0 ≤ pr → 0 ≤ f → stI T' 0 pr a f = stI T 0 pr a f := by
    intro pr f h1 h2
    unfold stI
    rw [e]
    split
    · rename_i q
      exact ldA_cong hT hT' ha h2 (g pr h1 (by omega))
    · rfl
  unfold stp
  rw [k 0 _ (by omega) (by omega), k 1 _ (by omega) (by omega), k 2 _ (by omega) (by omega)]
theorem lst_cong {T T' : TT} (e : T'.1 = T.1) (g : ∀ pr, 0 ≤ pr → pr < T.1 → Ag T T' pr) : lst T' 0 = lst T 0 := by
  unfold lst
  rw [e]
  by_cases h0 : 0 < T.1
  · rw [if_pos h0, if_pos h0, (g 0 (by omega) h0).2.1]
    by_cases h1 : 1 < T.1
    · rw [if_pos h1, if_pos h1, (g 1 (by omega) h1).2.1]
      rfl
    · rw [if_neg h1, if_neg h1]
      rfl
  · have h1 : ¬ 1 < T.1 := by omega
    rw [if_neg h0, if_neg h0, if_neg h1, if_neg h1]
    rfl
theorem wyN_cong {T T' : TT} (hT : TOk T) (hT' : TOk T') (e : T'.1 = T.1) (g : ∀ pr, 0 ≤ pr → pr < T.1 → Ag T T' pr) (k : Nat) : ∀ v, 0 ≤ v → wyN T' 0 k v = wyN T 0 k v := by
  induction k with
  | zero =>
    intro v _
    simp only [wyN]
    rw [lst_cong e g]
  | succ k ih =>
    intro v hv
    simp only [wyN]
    rw [lst_cong e g, sumA_cong 200 (fun a h1 h2 => ?_)]
    show (if 0 ≤ stp T' 0 v a then wyN T' 0 k (stp T' 0 v a) else 0) = if 0 ≤ stp T 0 v a then wyN T 0 k (stp T 0 v a) else 0
    rw [stp_cong hT hT' e g hv h1]
    split
    · rename_i q
      rw [ih _ q]
    · rfl
theorem WR_cong {T T' : TT} (hT : TOk T) (hT' : TOk T') (e : T'.1 = T.1) (g : ∀ pr, 0 ≤ pr → pr < T.1 → Ag T T' pr) {wy : FF} (h : WR T wy 0) : WR T' wy 0 := fun k v h1 h2 h3 h4 => by
  rw [h k v h1 h2 h3 h4]
  exact (wyN_cong hT hT' e g k.toNat v h3).symm
theorem CInv_typed {T T' : TT} {C : CC} {wf : Int} (hT : TOk T) (hT' : TOk T') (e : T'.1 = T.1) (g : ∀ pr, 0 ≤ pr → pr < 2 → Ag T T' pr) (hI : CInv T C) (hw : wf = if C.2.2.2.2 = 2 then -1 else C.2.2.2.2) : CInv T' (C.1, C.2.1, 0, C.2.2.2.1, wf) := by
  have g' : ∀ pr, 0 ≤ pr → pr < T.1 → Ag T T' pr := fun pr a b => g pr a (by have := hT.1; omega)
  have hb := hI.1.2.2.2.2
  have hw2 : (-1 ≤ wf ∧ wf ≤ 2) ∧ wf ≠ 2 ∧ (wf = 0 → C.2.2.2.2 = 0) := by
    rw [hw]
    split <;> omega
  exact ⟨⟨hI.1.1, hI.1.2.1, Or.inl rfl, hI.1.2.2.2.1, hw2.1⟩, fun q pr a b => LRp_cong hT hT' (g' pr a (by rw [← e]; exact b)) (hI.2.1 q pr a (by rw [← e]; exact b)), fun (q : (0 : Int) = 1) => absurd q (by omega), fun (q : wf = 0) => WR_cong hT hT' e g' (hI.2.2.2.1 (hw2.2.2 q)), fun (q : wf = 2) => absurd q hw2.2.1⟩
theorem CInv_relearned {T T' : TT} {C : CC} (hT : TOk T) (hT' : TOk T') (g : Ag T T' 2) (hI : CInv T C) : CInv T' (C.1, 0, C.2.2.1, C.2.2.2.1, -1) :=
  ⟨⟨hI.1.1, Or.inl rfl, hI.1.2.2.1, hI.1.2.2.2.1, by show (-1 : Int) ≤ -1 ∧ (-1 : Int) ≤ 2; omega⟩, fun (q : (0 : Int) = 1) => absurd q (by omega), fun q => LRp_cong hT hT' g (hI.2.2.1 q), fun (q : (-1 : Int) = 0) => absurd q (by omega), fun (q : (-1 : Int) = 2) => absurd q (by omega)⟩
def tIn (T : TT) (x : Int) : TT := if 0 ≤ x ∧ x ≤ 3 ∧ T.2.1 2 < 6 then (T.1, up T.2.1 2 (T.2.1 2 + 1), T.2.2.1, up T.2.2.2.1 (12 + T.2.1 2) x, T.2.2.2.2) else T
def vIn (T : TT) (x : Int) : Int := if x < 0 ∨ 3 < x then -1 else if 6 ≤ T.2.1 2 then -2 else T.2.1 2 + 1
def tOut (T : TT) (x : Int) : TT := if 0 ≤ x ∧ x ≤ 3 ∧ T.2.2.1 2 < 6 then (T.1, T.2.1, up T.2.2.1 2 (T.2.2.1 2 + 1), T.2.2.2.1, up T.2.2.2.2 (12 + T.2.2.1 2) x) else T
def vOut (T : TT) (x : Int) : Int := if x < 0 ∨ 3 < x then -1 else if 6 ≤ T.2.2.1 2 then -2 else T.2.2.1 2 + 1
def tEr (T : TT) : TT := (T.1, up T.2.1 2 0, up T.2.2.1 2 0, T.2.2.2.1, T.2.2.2.2)
def cp (f : FF) (e n : Int) : FF := fun j => if e * 6 ≤ j ∧ j < e * 6 + n then f (12 + (j - e * 6)) else f j
def tLe (T : TT) : TT := if 2 ≤ T.1 then T else (T.1 + 1, up T.2.1 T.1 (T.2.1 2), up T.2.2.1 T.1 (T.2.2.1 2), cp T.2.2.2.1 T.1 6, cp T.2.2.2.2 T.1 6)
def vLe (T : TT) : Int := if 2 ≤ T.1 then -2 else T.1 + 1
def tFo (T : TT) : TT := if T.1 = 0 then T else (T.1 - 1, T.2.1, T.2.2.1, T.2.2.2.1, T.2.2.2.2)
def vFo (T : TT) : Int := if T.1 = 0 then -3 else T.1 - 1
theorem cp_0 (f : FF) (e : Int) : cp f e 0 = f := by
  funext j
  unfold cp
  rw [if_neg (by omega)]
theorem cp_s {f : FF} {e i x : Int} (he : 0 ≤ e ∧ e < 2) (hi : 0 ≤ i ∧ i < 6) (hx : x = cp f e i (12 + i)) : up (cp f e i) (e * 6 + i) x = cp f e (i + 1) := by
  have h1 : cp f e i (12 + i) = f (12 + i) := by
    unfold cp
    rw [if_neg (by omega)]
  rw [hx, h1]
  funext j
  unfold up cp
  by_cases q : j = e * 6 + i
  · rw [if_pos q, if_pos (by omega)]
    congr 1
    omega
  · rw [if_neg q]
    by_cases z : e * 6 ≤ j ∧ j < e * 6 + i
    · rw [if_pos z, if_pos (by omega)]
    · rw [if_neg z, if_neg (by omega)]
theorem cp_bd {f : FF} {lo hi e n : Int} (h : ∀ j, lo ≤ f j ∧ f j ≤ hi) : ∀ j, lo ≤ cp f e n j ∧ cp f e n j ≤ hi := by
  intro j
  unfold cp
  split
  · exact h _
  · exact h _
theorem TOk_in {T : TT} (hT : TOk T) (x : Int) : TOk (tIn T x) := by
  unfold tIn
  split
  · have h1 := hT.2.1 2
    exact ⟨hT.1, up_bd hT.2.1 (by omega), hT.2.2.1, up_bd hT.2.2.2.1 (by omega), hT.2.2.2.2⟩
  · exact hT
theorem TOk_out {T : TT} (hT : TOk T) (x : Int) : TOk (tOut T x) := by
  unfold tOut
  split
  · have h1 := hT.2.2.1 2
    exact ⟨hT.1, hT.2.1, up_bd hT.2.2.1 (by omega), hT.2.2.2.1, up_bd hT.2.2.2.2 (by omega)⟩
  · exact hT
theorem TOk_er {T : TT} (hT : TOk T) : TOk (tEr T) := ⟨hT.1, up_bd hT.2.1 (by omega), up_bd hT.2.2.1 (by omega), hT.2.2.2.1, hT.2.2.2.2⟩
theorem TOk_le {T : TT} (hT : TOk T) : TOk (tLe T) := by
  unfold tLe
  split
  · exact hT
  · have h1 := hT.1
    exact ⟨by show 0 ≤ T.1 + 1 ∧ T.1 + 1 ≤ 2; omega, up_bd hT.2.1 (hT.2.1 2), up_bd hT.2.2.1 (hT.2.2.1 2), cp_bd hT.2.2.2.1, cp_bd hT.2.2.2.2⟩
theorem TOk_fo {T : TT} (hT : TOk T) : TOk (tFo T) := by
  unfold tFo
  split
  · exact hT
  · have h1 := hT.1
    exact ⟨by show 0 ≤ T.1 - 1 ∧ T.1 - 1 ≤ 2; omega, hT.2⟩
theorem CInv_in {T : TT} {C : CC} {wf x : Int} (hT : TOk T) (hI : CInv T C) (hw : wf = if C.2.2.2.2 = 2 then -1 else C.2.2.2.2) : CInv (tIn T x) (C.1, C.2.1, 0, C.2.2.2.1, wf) := by
  have h1 := hT.2.1 2
  refine CInv_typed hT (TOk_in hT x) ?_ (fun pr a b => ?_) hI hw
  · unfold tIn
    split <;> rfl
  · unfold tIn
    split
    · exact ⟨up_n (by omega), rfl, fun j c d => ⟨up_n (by omega), rfl⟩⟩
    · exact ⟨rfl, rfl, fun j c d => ⟨rfl, rfl⟩⟩
theorem CInv_out {T : TT} {C : CC} {wf x : Int} (hT : TOk T) (hI : CInv T C) (hw : wf = if C.2.2.2.2 = 2 then -1 else C.2.2.2.2) : CInv (tOut T x) (C.1, C.2.1, 0, C.2.2.2.1, wf) := by
  have h1 := hT.2.2.1 2
  refine CInv_typed hT (TOk_out hT x) ?_ (fun pr a b => ?_) hI hw
  · unfold tOut
    split <;> rfl
  · unfold tOut
    split
    · exact ⟨rfl, up_n (by omega), fun j c d => ⟨rfl, up_n (by omega)⟩⟩
    · exact ⟨rfl, rfl, fun j c d => ⟨rfl, rfl⟩⟩
theorem CInv_er {T : TT} {C : CC} {wf : Int} (hT : TOk T) (hI : CInv T C) (hw : wf = if C.2.2.2.2 = 2 then -1 else C.2.2.2.2) : CInv (tEr T) (C.1, C.2.1, 0, C.2.2.2.1, wf) :=
  CInv_typed hT (TOk_er hT) rfl (fun pr a b => ⟨up_n (by omega), up_n (by omega), fun j c d => ⟨rfl, rfl⟩⟩) hI hw
theorem CInv_le {T : TT} {C : CC} (hT : TOk T) (hI : CInv T C) : CInv (tLe T) (C.1, 0, C.2.2.1, C.2.2.2.1, -1) := by
  have h1 := hT.1
  refine CInv_relearned hT (TOk_le hT) ?_ hI
  unfold tLe
  split
  · exact ⟨rfl, rfl, fun j c d => ⟨rfl, rfl⟩⟩
  · exact ⟨up_n (by omega), up_n (by omega), fun j c d => ⟨if_neg (by omega), if_neg (by omega)⟩⟩
theorem CInv_fo {T : TT} {C : CC} (hT : TOk T) (hI : CInv T C) : CInv (tFo T) (C.1, 0, C.2.2.1, C.2.2.2.1, -1) := by
  refine CInv_relearned hT (TOk_fo hT) ?_ hI
  unfold tFo
  split
  · exact ⟨rfl, rfl, fun j c d => ⟨rfl, rfl⟩⟩
  · exact ⟨rfl, rfl, fun j c d => ⟨rfl, rfl⟩⟩
end
section
set_option maxHeartbeats 4000000 in
set_option maxRecDepth 100000 in
theorem mX_typed (l : Launch) (D : va_G) (ad : Nat → Nat) (cI cB : ClassId) (T : TT) (C : CC) (O : OO) (hC : CB C) : MV l D [(cI, .int), (cB, .byte)] yX0_typed cX0_typed 1 0 0 [.ref (ad 0)] (wX ad cI cB T C O) (fun u : Int => u = if C.2.2.2.2 = 2 then -1 else C.2.2.2.2) (fun u => wX ad cI cB T (C.1, C.2.1, 0, C.2.2.2.1, u) O) := by
  refine MV.of RX0 (by decide) rfl (Nat.le_of_ble_eq_true rfl) [(0, .ref (ad 0))] rfl ?_
  intro p e s m args below meth c A Q E ret ls h hl
  refine z_aload_n E dX0_typed_0 hl 0 rfl ?_
  refine z_iconst E dX0_typed_1 ?_
  refine pX_qr E h (by omega) dX0_typed_2 (fun H locs h => ?_)
  have h : ZH D A s.heap (wX ad cI cB T (C.1, C.2.1, 0, C.2.2.2.1, C.2.2.2.2) O) H locs := h
  refine z_aload_n E dX0_typed_5 hl 0 rfl ?_
  refine gX_wf (wf := C.2.2.2.2) E h dX0_typed_6 ?_
  have b1 := hC.2.2.2.2
  refine z_iconst E dX0_typed_9 ?_
  refine z_icmp_ne E 18 dX0_typed_10 (by decide) (by omega) (fun c1 => ?_) (fun c1 => ?_)
  · have c1 : (C.2.2.2.2 : Int) ≠ (2 : Int) := c1
    exact ret C.2.2.2.2 dX0_typed_18 (by rw [if_neg (by omega)]) h
  · have c1 : (C.2.2.2.2 : Int) = (2 : Int) := c1
    refine z_aload_n E dX0_typed_13 hl 0 rfl ?_
    refine z_iconst E dX0_typed_14 ?_
    refine pX_wf E h dX0_typed_15 (fun H locs h => ?_)
    have h : ZH D A s.heap (wX ad cI cB T (C.1, C.2.1, 0, C.2.2.2.1, (-1)) O) H locs := h
    exact ret (-1) dX0_typed_18 (by rw [if_pos (by omega)]) h
set_option maxHeartbeats 4000000 in
set_option maxRecDepth 100000 in
theorem mX_relearned (l : Launch) (D : va_G) (ad : Nat → Nat) (cI cB : ClassId) (T : TT) (C : CC) (O : OO)  : MV l D [(cI, .int), (cB, .byte)] yX0_relearned cX0_relearned 1 0 0 [.ref (ad 0)] (wX ad cI cB T C O) (fun _ : Unit => True) (fun _ => wX ad cI cB T (C.1, 0, C.2.2.1, C.2.2.2.1, (-1)) O) := by
  refine MV.of RX0 (by decide) rfl (Nat.le_of_ble_eq_true rfl) [(0, .ref (ad 0))] rfl ?_
  intro p e s m args below meth c A Q E ret ls h hl
  refine z_aload_n E dX0_relearned_0 hl 0 rfl ?_
  refine z_iconst E dX0_relearned_1 ?_
  refine pX_lr E h (by omega) dX0_relearned_2 (fun H locs h => ?_)
  have h : ZH D A s.heap (wX ad cI cB T (C.1, 0, C.2.2.1, C.2.2.2.1, C.2.2.2.2) O) H locs := h
  refine z_aload_n E dX0_relearned_5 hl 0 rfl ?_
  refine z_iconst E dX0_relearned_6 ?_
  refine pX_wf E h dX0_relearned_7 (fun H locs h => ?_)
  have h : ZH D A s.heap (wX ad cI cB T (C.1, 0, C.2.2.1, C.2.2.2.1, (-1)) O) H locs := h
  exact ret () dX0_relearned_10 (trivial) h
set_option maxHeartbeats 4000000 in
set_option maxRecDepth 100000 in
theorem mX_typeIn (l : Launch) (D : va_G) (ad : Nat → Nat) (cI cB : ClassId) (T : TT) (C : CC) (O : OO) (x : Int) (hT : TOk T) (hI : CInv T C) (hr : -2147483648 ≤ x ∧ x ≤ 2147483647) : MI l D [(cI, .int), (cB, .byte)] yX0_typeIn cX0_typeIn 2 .int 1 20 [.ref (ad 0), .int (zI x)] (wX ad cI cB T C O) (fun z (u : CC) => z = vIn T x ∧ CInv (tIn T x) u) (fun u => wX ad cI cB (tIn T x) u O) := by
  refine MI.of RX0 (by decide) rfl (Nat.le_of_ble_eq_true rfl) [(0, .ref (ad 0)), (1, .int (zI x))] rfl ?_
  intro p e s m args below meth c A Q E ret ls h hl
  have hC := hI.1
  refine z_iload_n E dX0_typeIn_0 hl 1 rfl ?_
  refine z_if_lt E 9 dX0_typeIn_1 (by decide) (by omega) (fun c1 => ?_) (fun c1 => ?_)
  · have c1 : (x : Int) < (0 : Int) := c1
    refine z_iconst E dX0_typeIn_9 ?_
    have eT : tIn T x = T := by unfold tIn; rw [if_neg (by omega)]
    rw [← eT] at h
    exact ret C dX0_typeIn_10 rfl (⟨by unfold vIn; rw [if_pos (by omega)], by rw [eT]; exact hI⟩) h
  · have c1 : (0 : Int) ≤ (x : Int) := c1
    refine z_iload_n E dX0_typeIn_4 hl 1 rfl ?_
    refine z_iconst E dX0_typeIn_5 ?_
    refine z_icmp_le E 11 dX0_typeIn_6 (by decide) (by omega) (fun c2 => ?_) (fun c2 => ?_)
    · have c2 : (x : Int) ≤ (3 : Int) := c2
      refine z_aload_n E dX0_typeIn_11 hl 0 rfl ?_
      refine gX_il E h dX0_typeIn_12 ?_
      refine z_iconst E dX0_typeIn_15 ?_
      refine lX_il E h (by omega) dX0_typeIn_16 (fun x1 ex1 => ?_)
      have ex1 : x1 = T.2.1 2 := ex1
      have b1 := hT.2.1 2
      refine z_bipush E dX0_typeIn_17 (by decide +kernel) ?_
      refine z_icmp_lt E 25 dX0_typeIn_19 (by decide) (by omega) (fun c3 => ?_) (fun c3 => ?_)
      · have c3 : (x1 : Int) < (6 : Int) := c3
        refine z_aload_n E dX0_typeIn_25 hl 0 rfl ?_
        refine gX_iL E h dX0_typeIn_26 ?_
        refine z_bipush E dX0_typeIn_29 (by decide +kernel) ?_
        refine z_aload_n E dX0_typeIn_31 hl 0 rfl ?_
        refine gX_il E h dX0_typeIn_32 ?_
        refine z_iconst E dX0_typeIn_35 ?_
        refine lX_il E h (by omega) dX0_typeIn_36 (fun x2 ex2 => ?_)
        have ex2 : x2 = T.2.1 2 := ex2
        have b2 := hT.2.1 2
        refine z_iadd E dX0_typeIn_37 ?_
        refine z_iload_n E dX0_typeIn_38 hl 1 rfl ?_
        refine sX_iL E h (by omega) dX0_typeIn_39 (fun H locs h => ?_)
        have h : ZH D A s.heap (wX ad cI cB (T.1, T.2.1, T.2.2.1, up T.2.2.2.1 (12 + x2) x, T.2.2.2.2) C O) H locs := h
        refine z_aload_n E dX0_typeIn_40 hl 0 rfl ?_
        refine gX_il E h dX0_typeIn_41 ?_
        refine z_iconst E dX0_typeIn_44 ?_
        refine z_dup2 E dX0_typeIn_45 rfl rfl ?_
        refine lX_il E h (by omega) dX0_typeIn_46 (fun x3 ex3 => ?_)
        have ex3 : x3 = T.2.1 2 := ex3
        have b3 := hT.2.1 2
        refine z_iconst E dX0_typeIn_47 ?_
        refine z_iadd E dX0_typeIn_48 ?_
        refine sX_il E h (by omega) dX0_typeIn_49 (fun H locs h => ?_)
        have h : ZH D A s.heap (wX ad cI cB (T.1, up T.2.1 2 (x3 + 1), T.2.2.1, up T.2.2.2.1 (12 + x2) x, T.2.2.2.2) C O) H locs := h
        refine z_aload_n E dX0_typeIn_50 hl 0 rfl ?_
        refine z_callv (n := 0) (rest := []) E h (mX_typed l D ad cI cB (T.1, up T.2.1 2 (x3 + 1), T.2.2.1, up T.2.2.2.1 (12 + x2) x, T.2.2.2.2) C O  hC) q92 q94 qs0 q33 q95 (by decide +kernel) ⟨Nat.le_of_ble_eq_true rfl, Nat.le_of_ble_eq_true rfl⟩ ⟨Nat.le_refl _, Nat.le_refl _⟩ rfl rfl rfl hl.1 (Nat.le_of_ble_eq_true rfl) rfl dX0_typeIn_51 (fun ur1 H locs er1 h => ?_)
        have h : ZH D A s.heap (wX ad cI cB (T.1, up T.2.1 2 (x3 + 1), T.2.2.1, up T.2.2.2.1 (12 + x2) x, T.2.2.2.2) (C.1, C.2.1, 0, C.2.2.2.1, ur1) O) H locs := h
        refine z_aload_n E dX0_typeIn_54 hl 0 rfl ?_
        refine gX_il E h dX0_typeIn_55 ?_
        refine z_iconst E dX0_typeIn_58 ?_
        refine lX_il E h (by omega) dX0_typeIn_59 (fun x4 ex4 => ?_)
        have ex4 : x4 = (up T.2.1 2 (x3 + 1)) 2 := ex4
        have eT : tIn T x = (T.1, up T.2.1 2 (x3 + 1), T.2.2.1, up T.2.2.2.1 (12 + x2) x, T.2.2.2.2) := by unfold tIn; rw [if_pos (by omega), ex2, ex3]
        rw [← eT] at h
        exact ret (C.1, C.2.1, 0, C.2.2.2.1, ur1) dX0_typeIn_60 rfl (⟨by unfold vIn; rw [if_neg (by omega), if_neg (by omega), ex4, up_s, ex3], CInv_in hT hI er1⟩) h
      · have c3 : (6 : Int) ≤ (x1 : Int) := c3
        refine z_bipush E dX0_typeIn_22 (by decide +kernel) ?_
        have eT : tIn T x = T := by unfold tIn; rw [if_neg (by omega)]
        rw [← eT] at h
        exact ret C dX0_typeIn_24 rfl (⟨by unfold vIn; rw [if_neg (by omega), if_pos (by omega)], by rw [eT]; exact hI⟩) h
    · have c2 : (3 : Int) < (x : Int) := c2
      refine z_iconst E dX0_typeIn_9 ?_
      have eT : tIn T x = T := by unfold tIn; rw [if_neg (by omega)]
      rw [← eT] at h
      exact ret C dX0_typeIn_10 rfl (⟨by unfold vIn; rw [if_pos (by omega)], by rw [eT]; exact hI⟩) h
set_option maxHeartbeats 4000000 in
set_option maxRecDepth 100000 in
theorem mX_typeOut (l : Launch) (D : va_G) (ad : Nat → Nat) (cI cB : ClassId) (T : TT) (C : CC) (O : OO) (x : Int) (hT : TOk T) (hI : CInv T C) (hr : -2147483648 ≤ x ∧ x ≤ 2147483647) : MI l D [(cI, .int), (cB, .byte)] yX0_typeOut cX0_typeOut 2 .int 1 20 [.ref (ad 0), .int (zI x)] (wX ad cI cB T C O) (fun z (u : CC) => z = vOut T x ∧ CInv (tOut T x) u) (fun u => wX ad cI cB (tOut T x) u O) := by
  refine MI.of RX0 (by decide) rfl (Nat.le_of_ble_eq_true rfl) [(0, .ref (ad 0)), (1, .int (zI x))] rfl ?_
  intro p e s m args below meth c A Q E ret ls h hl
  have hC := hI.1
  refine z_iload_n E dX0_typeOut_0 hl 1 rfl ?_
  refine z_if_lt E 9 dX0_typeOut_1 (by decide) (by omega) (fun c1 => ?_) (fun c1 => ?_)
  · have c1 : (x : Int) < (0 : Int) := c1
    refine z_iconst E dX0_typeOut_9 ?_
    have eT : tOut T x = T := by unfold tOut; rw [if_neg (by omega)]
    rw [← eT] at h
    exact ret C dX0_typeOut_10 rfl (⟨by unfold vOut; rw [if_pos (by omega)], by rw [eT]; exact hI⟩) h
  · have c1 : (0 : Int) ≤ (x : Int) := c1
    refine z_iload_n E dX0_typeOut_4 hl 1 rfl ?_
    refine z_iconst E dX0_typeOut_5 ?_
    refine z_icmp_le E 11 dX0_typeOut_6 (by decide) (by omega) (fun c2 => ?_) (fun c2 => ?_)
    · have c2 : (x : Int) ≤ (3 : Int) := c2
      refine z_aload_n E dX0_typeOut_11 hl 0 rfl ?_
      refine gX_ol E h dX0_typeOut_12 ?_
      refine z_iconst E dX0_typeOut_15 ?_
      refine lX_ol E h (by omega) dX0_typeOut_16 (fun x1 ex1 => ?_)
      have ex1 : x1 = T.2.2.1 2 := ex1
      have b1 := hT.2.2.1 2
      refine z_bipush E dX0_typeOut_17 (by decide +kernel) ?_
      refine z_icmp_lt E 25 dX0_typeOut_19 (by decide) (by omega) (fun c3 => ?_) (fun c3 => ?_)
      · have c3 : (x1 : Int) < (6 : Int) := c3
        refine z_aload_n E dX0_typeOut_25 hl 0 rfl ?_
        refine gX_oL E h dX0_typeOut_26 ?_
        refine z_bipush E dX0_typeOut_29 (by decide +kernel) ?_
        refine z_aload_n E dX0_typeOut_31 hl 0 rfl ?_
        refine gX_ol E h dX0_typeOut_32 ?_
        refine z_iconst E dX0_typeOut_35 ?_
        refine lX_ol E h (by omega) dX0_typeOut_36 (fun x2 ex2 => ?_)
        have ex2 : x2 = T.2.2.1 2 := ex2
        have b2 := hT.2.2.1 2
        refine z_iadd E dX0_typeOut_37 ?_
        refine z_iload_n E dX0_typeOut_38 hl 1 rfl ?_
        refine sX_oL E h (by omega) dX0_typeOut_39 (fun H locs h => ?_)
        have h : ZH D A s.heap (wX ad cI cB (T.1, T.2.1, T.2.2.1, T.2.2.2.1, up T.2.2.2.2 (12 + x2) x) C O) H locs := h
        refine z_aload_n E dX0_typeOut_40 hl 0 rfl ?_
        refine gX_ol E h dX0_typeOut_41 ?_
        refine z_iconst E dX0_typeOut_44 ?_
        refine z_dup2 E dX0_typeOut_45 rfl rfl ?_
        refine lX_ol E h (by omega) dX0_typeOut_46 (fun x3 ex3 => ?_)
        have ex3 : x3 = T.2.2.1 2 := ex3
        have b3 := hT.2.2.1 2
        refine z_iconst E dX0_typeOut_47 ?_
        refine z_iadd E dX0_typeOut_48 ?_
        refine sX_ol E h (by omega) dX0_typeOut_49 (fun H locs h => ?_)
        have h : ZH D A s.heap (wX ad cI cB (T.1, T.2.1, up T.2.2.1 2 (x3 + 1), T.2.2.2.1, up T.2.2.2.2 (12 + x2) x) C O) H locs := h
        refine z_aload_n E dX0_typeOut_50 hl 0 rfl ?_
        refine z_callv (n := 0) (rest := []) E h (mX_typed l D ad cI cB (T.1, T.2.1, up T.2.2.1 2 (x3 + 1), T.2.2.2.1, up T.2.2.2.2 (12 + x2) x) C O  hC) q92 q94 qs0 q33 q95 (by decide +kernel) ⟨Nat.le_of_ble_eq_true rfl, Nat.le_of_ble_eq_true rfl⟩ ⟨Nat.le_refl _, Nat.le_refl _⟩ rfl rfl rfl hl.1 (Nat.le_of_ble_eq_true rfl) rfl dX0_typeOut_51 (fun ur1 H locs er1 h => ?_)
        have h : ZH D A s.heap (wX ad cI cB (T.1, T.2.1, up T.2.2.1 2 (x3 + 1), T.2.2.2.1, up T.2.2.2.2 (12 + x2) x) (C.1, C.2.1, 0, C.2.2.2.1, ur1) O) H locs := h
        refine z_aload_n E dX0_typeOut_54 hl 0 rfl ?_
        refine gX_ol E h dX0_typeOut_55 ?_
        refine z_iconst E dX0_typeOut_58 ?_
        refine lX_ol E h (by omega) dX0_typeOut_59 (fun x4 ex4 => ?_)
        have ex4 : x4 = (up T.2.2.1 2 (x3 + 1)) 2 := ex4
        have eT : tOut T x = (T.1, T.2.1, up T.2.2.1 2 (x3 + 1), T.2.2.2.1, up T.2.2.2.2 (12 + x2) x) := by unfold tOut; rw [if_pos (by omega), ex2, ex3]
        rw [← eT] at h
        exact ret (C.1, C.2.1, 0, C.2.2.2.1, ur1) dX0_typeOut_60 rfl (⟨by unfold vOut; rw [if_neg (by omega), if_neg (by omega), ex4, up_s, ex3], CInv_out hT hI er1⟩) h
      · have c3 : (6 : Int) ≤ (x1 : Int) := c3
        refine z_bipush E dX0_typeOut_22 (by decide +kernel) ?_
        have eT : tOut T x = T := by unfold tOut; rw [if_neg (by omega)]
        rw [← eT] at h
        exact ret C dX0_typeOut_24 rfl (⟨by unfold vOut; rw [if_neg (by omega), if_pos (by omega)], by rw [eT]; exact hI⟩) h
    · have c2 : (3 : Int) < (x : Int) := c2
      refine z_iconst E dX0_typeOut_9 ?_
      have eT : tOut T x = T := by unfold tOut; rw [if_neg (by omega)]
      rw [← eT] at h
      exact ret C dX0_typeOut_10 rfl (⟨by unfold vOut; rw [if_pos (by omega)], by rw [eT]; exact hI⟩) h
set_option maxHeartbeats 4000000 in
set_option maxRecDepth 100000 in
theorem mX_erase (l : Launch) (D : va_G) (ad : Nat → Nat) (cI cB : ClassId) (T : TT) (C : CC) (O : OO) (hT : TOk T) (hI : CInv T C) : MV l D [(cI, .int), (cB, .byte)] yX0_erase cX0_erase 1 1 20 [.ref (ad 0)] (wX ad cI cB T C O) (fun u : CC => CInv (tEr T) u) (fun u => wX ad cI cB (tEr T) u O) := by
  refine MV.of RX0 (by decide) rfl (Nat.le_of_ble_eq_true rfl) [(0, .ref (ad 0))] rfl ?_
  intro p e s m args below meth c A Q E ret ls h hl
  have hC := hI.1
  refine z_aload_n E dX0_erase_0 hl 0 rfl ?_
  refine gX_il E h dX0_erase_1 ?_
  refine z_iconst E dX0_erase_4 ?_
  refine z_iconst E dX0_erase_5 ?_
  refine sX_il E h (by omega) dX0_erase_6 (fun H locs h => ?_)
  have h : ZH D A s.heap (wX ad cI cB (T.1, up T.2.1 2 0, T.2.2.1, T.2.2.2.1, T.2.2.2.2) C O) H locs := h
  refine z_aload_n E dX0_erase_7 hl 0 rfl ?_
  refine gX_ol E h dX0_erase_8 ?_
  refine z_iconst E dX0_erase_11 ?_
  refine z_iconst E dX0_erase_12 ?_
  refine sX_ol E h (by omega) dX0_erase_13 (fun H locs h => ?_)
  have h : ZH D A s.heap (wX ad cI cB (T.1, up T.2.1 2 0, up T.2.2.1 2 0, T.2.2.2.1, T.2.2.2.2) C O) H locs := h
  refine z_aload_n E dX0_erase_14 hl 0 rfl ?_
  refine z_callv (n := 0) (rest := []) E h (mX_typed l D ad cI cB (T.1, up T.2.1 2 0, up T.2.2.1 2 0, T.2.2.2.1, T.2.2.2.2) C O  hC) q92 q94 qs0 q33 q95 (by decide +kernel) ⟨Nat.le_of_ble_eq_true rfl, Nat.le_of_ble_eq_true rfl⟩ ⟨Nat.le_refl _, Nat.le_refl _⟩ rfl rfl rfl hl.1 (Nat.le_of_ble_eq_true rfl) rfl dX0_erase_15 (fun ur1 H locs er1 h => ?_)
  have h : ZH D A s.heap (wX ad cI cB (T.1, up T.2.1 2 0, up T.2.2.1 2 0, T.2.2.2.1, T.2.2.2.2) (C.1, C.2.1, 0, C.2.2.2.1, ur1) O) H locs := h
  exact ret (C.1, C.2.1, 0, C.2.2.2.1, ur1) dX0_erase_18 (CInv_er hT hI er1) h
set_option maxHeartbeats 4000000 in
set_option maxRecDepth 100000 in
theorem mX_learn (l : Launch) (D : va_G) (ad : Nat → Nat) (cI cB : ClassId) (T : TT) (C : CC) (O : OO) (hT : TOk T) (hI : CInv T C) : MI l D [(cI, .int), (cB, .byte)] yX0_learn cX0_learn 3 .int 1 20 [.ref (ad 0)] (wX ad cI cB T C O) (fun z (u : CC) => z = vLe T ∧ CInv (tLe T) u) (fun u => wX ad cI cB (tLe T) u O) := by
  refine MI.of RX0 (by decide) rfl (Nat.le_of_ble_eq_true rfl) [(0, .ref (ad 0))] rfl ?_
  intro p e s m args below meth c A Q E ret ls h hl
  refine z_aload_n E dX0_learn_0 hl 0 rfl ?_
  refine gX_ex (ex := T.1) E h dX0_learn_1 ?_
  have b1 := hT.1
  refine z_iconst E dX0_learn_4 ?_
  refine z_icmp_lt E 11 dX0_learn_5 (by decide) (by omega) (fun c1 => ?_) (fun c1 => ?_)
  · have c1 : (T.1 : Int) < (2 : Int) := c1
    refine z_aload_n E dX0_learn_11 hl 0 rfl ?_
    refine gX_ex (ex := T.1) E h dX0_learn_12 ?_
    have b2 := hT.1
    refine z_istore_n E [(0, .ref (ad 0)), (1, .int (zI T.1))] dX0_learn_15 hl (by decide) [1, 0] rfl (fun ls hl => ?_)
    refine z_aload_n E dX0_learn_16 hl 0 rfl ?_
    refine gX_il E h dX0_learn_17 ?_
    refine z_iload_n E dX0_learn_20 hl 1 rfl ?_
    refine z_aload_n E dX0_learn_21 hl 0 rfl ?_
    refine gX_il E h dX0_learn_22 ?_
    refine z_iconst E dX0_learn_25 ?_
    refine lX_il E h (by omega) dX0_learn_26 (fun x1 ex1 => ?_)
    have ex1 : x1 = T.2.1 2 := ex1
    have b3 := hT.2.1 2
    refine sX_il E h (by omega) dX0_learn_27 (fun H locs h => ?_)
    have h : ZH D A s.heap (wX ad cI cB (T.1, up T.2.1 T.1 x1, T.2.2.1, T.2.2.2.1, T.2.2.2.2) C O) H locs := h
    refine z_aload_n E dX0_learn_28 hl 0 rfl ?_
    refine gX_ol E h dX0_learn_29 ?_
    refine z_iload_n E dX0_learn_32 hl 1 rfl ?_
    refine z_aload_n E dX0_learn_33 hl 0 rfl ?_
    refine gX_ol E h dX0_learn_34 ?_
    refine z_iconst E dX0_learn_37 ?_
    refine lX_ol E h (by omega) dX0_learn_38 (fun x2 ex2 => ?_)
    have ex2 : x2 = T.2.2.1 2 := ex2
    have b4 := hT.2.2.1 2
    refine sX_ol E h (by omega) dX0_learn_39 (fun H locs h => ?_)
    have h : ZH D A s.heap (wX ad cI cB (T.1, up T.2.1 T.1 x1, up T.2.2.1 T.1 x2, T.2.2.2.1, T.2.2.2.2) C O) H locs := h
    refine z_iconst E dX0_learn_40 ?_
    refine z_istore_n E [(0, .ref (ad 0)), (1, .int (zI T.1)), (2, .int (zI 0))] dX0_learn_41 hl (by decide) [1, 2, 0] rfl (fun ls hl => ?_)
    have h : ZH D A s.heap (wX ad cI cB (T.1, up T.2.1 T.1 x1, up T.2.2.1 T.1 x2, cp T.2.2.2.1 T.1 0, cp T.2.2.2.2 T.1 0) C O) H locs := by rw [cp_0, cp_0]; exact h
    have loop42 : ∀ (n42 : Nat) (i : Int) (H : Heap) (locs : List Loc) (ls : Array Slot), (6 - i) < (n42 : Int) → (0 ≤ i ∧ i ≤ 6) → ZH D A s.heap (wX ad cI cB (T.1, up T.2.1 T.1 x1, up T.2.2.1 T.1 x2, cp T.2.2.2.1 T.1 i, cp T.2.2.2.2 T.1 i) C O) H locs → lv_has ls 3 [(0, .ref (ad 0)), (1, .int (zI T.1)), (2, .int (zI i))] → W p l e ({ frames := 1, cells := 0, slots := 0, locals := 20 } : Room) s m args below meth c H locs 0 0 Q (F0 m 42 ls []) := by
      intro n42
      induction n42 with
      | zero =>
        intro i H locs ls hm42 hi h hl
        exfalso; omega
      | succ n42 ih42 =>
        intro i H locs ls hm42 hi h hl
        refine z_iload_n E dX0_learn_42 hl 2 rfl ?_
        refine z_bipush E dX0_learn_43 (by decide +kernel) ?_
        refine z_icmp_ge E 94 dX0_learn_45 (by decide) (by omega) (fun c2 => ?_) (fun c2 => ?_)
        · have c2 : (6 : Int) ≤ (i : Int) := c2
          refine z_aload_n E dX0_learn_94 hl 0 rfl ?_
          refine z_dup E dX0_learn_95 rfl ?_
          refine gX_ex (ex := T.1) E h dX0_learn_96 ?_
          have b5 := hT.1
          refine z_iconst E dX0_learn_99 ?_
          refine z_iadd E dX0_learn_100 ?_
          refine pX_ex E h dX0_learn_101 (fun H locs h => ?_)
          have h : ZH D A s.heap (wX ad cI cB (T.1 + 1, up T.2.1 T.1 x1, up T.2.2.1 T.1 x2, cp T.2.2.2.1 T.1 i, cp T.2.2.2.2 T.1 i) C O) H locs := h
          refine z_aload_n E dX0_learn_104 hl 0 rfl ?_
          refine z_callv (n := 0) (rest := []) E h (mX_relearned l D ad cI cB (T.1 + 1, up T.2.1 T.1 x1, up T.2.2.1 T.1 x2, cp T.2.2.2.1 T.1 i, cp T.2.2.2.2 T.1 i) C O  ) q108 q110 qs1 q33 q111 (by decide +kernel) ⟨Nat.le_of_ble_eq_true rfl, Nat.le_of_ble_eq_true rfl⟩ ⟨Nat.le_refl _, Nat.le_refl _⟩ rfl rfl rfl hl.1 (Nat.le_of_ble_eq_true rfl) rfl dX0_learn_105 (fun ur1 H locs er1 h => ?_)
          have h : ZH D A s.heap (wX ad cI cB (T.1 + 1, up T.2.1 T.1 x1, up T.2.2.1 T.1 x2, cp T.2.2.2.1 T.1 i, cp T.2.2.2.2 T.1 i) (C.1, 0, C.2.2.1, C.2.2.2.1, (-1)) O) H locs := h
          refine z_aload_n E dX0_learn_108 hl 0 rfl ?_
          refine gX_ex (ex := T.1 + 1) E h dX0_learn_109 ?_
          have eT : tLe T = (T.1 + 1, up T.2.1 T.1 x1, up T.2.2.1 T.1 x2, cp T.2.2.2.1 T.1 i, cp T.2.2.2.2 T.1 i) := by unfold tLe; rw [if_neg (by omega), ex1, ex2, show i = 6 by omega]
          rw [← eT] at h
          exact ret (C.1, 0, C.2.2.1, C.2.2.2.1, -1) dX0_learn_112 rfl (⟨by unfold vLe; rw [if_neg (by omega)], CInv_le hT hI⟩) h
        · have c2 : (i : Int) < (6 : Int) := c2
          refine z_aload_n E dX0_learn_48 hl 0 rfl ?_
          refine gX_iL E h dX0_learn_49 ?_
          refine z_iload_n E dX0_learn_52 hl 1 rfl ?_
          refine z_bipush E dX0_learn_53 (by decide +kernel) ?_
          refine z_imul E dX0_learn_55 ?_
          refine z_iload_n E dX0_learn_56 hl 2 rfl ?_
          refine z_iadd E dX0_learn_57 ?_
          refine z_aload_n E dX0_learn_58 hl 0 rfl ?_
          refine gX_iL E h dX0_learn_59 ?_
          refine z_bipush E dX0_learn_62 (by decide +kernel) ?_
          refine z_iload_n E dX0_learn_64 hl 2 rfl ?_
          refine z_iadd E dX0_learn_65 ?_
          refine lX_iL E h (by omega) dX0_learn_66 (fun x3 ex3 => ?_)
          have ex3 : x3 = (cp T.2.2.2.1 T.1 i) (12 + i) := ex3
          refine sX_iL E h (by omega) dX0_learn_67 (fun H locs h => ?_)
          have h : ZH D A s.heap (wX ad cI cB (T.1, up T.2.1 T.1 x1, up T.2.2.1 T.1 x2, up (cp T.2.2.2.1 T.1 i) ((T.1 * 6) + i) x3, cp T.2.2.2.2 T.1 i) C O) H locs := h
          refine z_aload_n E dX0_learn_68 hl 0 rfl ?_
          refine gX_oL E h dX0_learn_69 ?_
          refine z_iload_n E dX0_learn_72 hl 1 rfl ?_
          refine z_bipush E dX0_learn_73 (by decide +kernel) ?_
          refine z_imul E dX0_learn_75 ?_
          refine z_iload_n E dX0_learn_76 hl 2 rfl ?_
          refine z_iadd E dX0_learn_77 ?_
          refine z_aload_n E dX0_learn_78 hl 0 rfl ?_
          refine gX_oL E h dX0_learn_79 ?_
          refine z_bipush E dX0_learn_82 (by decide +kernel) ?_
          refine z_iload_n E dX0_learn_84 hl 2 rfl ?_
          refine z_iadd E dX0_learn_85 ?_
          refine lX_oL E h (by omega) dX0_learn_86 (fun x4 ex4 => ?_)
          have ex4 : x4 = (cp T.2.2.2.2 T.1 i) (12 + i) := ex4
          refine sX_oL E h (by omega) dX0_learn_87 (fun H locs h => ?_)
          have h : ZH D A s.heap (wX ad cI cB (T.1, up T.2.1 T.1 x1, up T.2.2.1 T.1 x2, up (cp T.2.2.2.1 T.1 i) ((T.1 * 6) + i) x3, up (cp T.2.2.2.2 T.1 i) ((T.1 * 6) + i) x4) C O) H locs := h
          refine z_iinc E [(0, .ref (ad 0)), (1, .int (zI T.1)), (2, .int (zI (i + 1)))] dX0_learn_88 hl 2 rfl (by decide) [1, 2, 0] rfl (fun ls hl => ?_)
          refine z_goto E 42 dX0_learn_91 (by decide) ?_
          rw [cp_s (by omega) (by omega) ex3, cp_s (by omega) (by omega) ex4] at h
          exact ih42 (i + 1) _ _ _ (by omega) (by omega) h (lv_sub hl [0, 1, 2] rfl)
    exact loop42 10 0 _ _ _ (by omega) (by omega) h (lv_sub hl [0, 1, 2] rfl)
  · have c1 : (2 : Int) ≤ (T.1 : Int) := c1
    refine z_bipush E dX0_learn_8 (by decide +kernel) ?_
    have eT : tLe T = T := by unfold tLe; rw [if_pos (by omega)]
    rw [← eT] at h
    exact ret C dX0_learn_10 rfl (⟨by unfold vLe; rw [if_pos (by omega)], by rw [eT]; exact hI⟩) h
set_option maxHeartbeats 4000000 in
set_option maxRecDepth 100000 in
theorem mX_forget (l : Launch) (D : va_G) (ad : Nat → Nat) (cI cB : ClassId) (T : TT) (C : CC) (O : OO) (hT : TOk T) (hI : CInv T C) : MI l D [(cI, .int), (cB, .byte)] yX0_forget cX0_forget 1 .int 1 20 [.ref (ad 0)] (wX ad cI cB T C O) (fun z (u : CC) => z = vFo T ∧ CInv (tFo T) u) (fun u => wX ad cI cB (tFo T) u O) := by
  refine MI.of RX0 (by decide) rfl (Nat.le_of_ble_eq_true rfl) [(0, .ref (ad 0))] rfl ?_
  intro p e s m args below meth c A Q E ret ls h hl
  refine z_aload_n E dX0_forget_0 hl 0 rfl ?_
  refine gX_ex (ex := T.1) E h dX0_forget_1 ?_
  have b1 := hT.1
  refine z_if_ne E 10 dX0_forget_4 (by decide) (by omega) (fun c1 => ?_) (fun c1 => ?_)
  · have c1 : (T.1 : Int) ≠ (0 : Int) := c1
    refine z_aload_n E dX0_forget_10 hl 0 rfl ?_
    refine z_dup E dX0_forget_11 rfl ?_
    refine gX_ex (ex := T.1) E h dX0_forget_12 ?_
    have b2 := hT.1
    refine z_iconst E dX0_forget_15 ?_
    refine z_isub E dX0_forget_16 ?_
    refine pX_ex E h dX0_forget_17 (fun H locs h => ?_)
    have h : ZH D A s.heap (wX ad cI cB (T.1 - 1, T.2.1, T.2.2.1, T.2.2.2.1, T.2.2.2.2) C O) H locs := h
    refine z_aload_n E dX0_forget_20 hl 0 rfl ?_
    refine z_callv (n := 0) (rest := []) E h (mX_relearned l D ad cI cB (T.1 - 1, T.2.1, T.2.2.1, T.2.2.2.1, T.2.2.2.2) C O  ) q108 q110 qs1 q33 q111 (by decide +kernel) ⟨Nat.le_of_ble_eq_true rfl, Nat.le_of_ble_eq_true rfl⟩ ⟨Nat.le_refl _, Nat.le_refl _⟩ rfl rfl rfl hl.1 (Nat.le_of_ble_eq_true rfl) rfl dX0_forget_21 (fun ur1 H locs er1 h => ?_)
    have h : ZH D A s.heap (wX ad cI cB (T.1 - 1, T.2.1, T.2.2.1, T.2.2.2.1, T.2.2.2.2) (C.1, 0, C.2.2.1, C.2.2.2.1, (-1)) O) H locs := h
    refine z_aload_n E dX0_forget_24 hl 0 rfl ?_
    refine gX_ex (ex := T.1 - 1) E h dX0_forget_25 ?_
    have eT : tFo T = (T.1 - 1, T.2.1, T.2.2.1, T.2.2.2.1, T.2.2.2.2) := by unfold tFo; rw [if_neg (by omega)]
    rw [← eT] at h
    exact ret (C.1, 0, C.2.2.1, C.2.2.2.1, -1) dX0_forget_28 rfl (⟨by unfold vFo; rw [if_neg (by omega)], CInv_fo hT hI⟩) h
  · have c1 : (T.1 : Int) = (0 : Int) := c1
    refine z_bipush E dX0_forget_7 (by decide +kernel) ?_
    have eT : tFo T = T := by unfold tFo; rw [if_pos (by omega)]
    rw [← eT] at h
    exact ret C dX0_forget_9 rfl (⟨by unfold vFo; rw [if_pos (by omega)], by rw [eT]; exact hI⟩) h
end
section
def NB (N : NN) : Prop := (∀ j, 0 ≤ N.1 j ∧ N.1 j ≤ 6) ∧ (∀ j, -1 ≤ N.2.1 j ∧ N.2.1 j ≤ 199) ∧ (N.2.2.1 = 0 ∨ N.2.2.1 = 1)
def Vok (T : TT) (ty v : Int) : Prop := (0 ≤ v ∧ v < 343) ∧ v % 7 ≤ lst T ty % 7 ∧ v / 7 % 7 ≤ lst T ty / 7 % 7 ∧ v / 49 ≤ lst T ty / 49
def dg (pr v : Int) : Int := if pr = 0 then v % 7 else if pr = 1 then v / 7 % 7 else v / 49
def Enc (T : TT) (ty : Int) (md : FF) (lv v : Int) : Prop := ∀ pr, 0 ≤ pr → pr ≤ 2 → (pr < T.1 ∨ (pr = 2 ∧ ty = 2)) → md (lv * 3 + pr) = dg pr v
theorem dg_bd {pr v : Int} (h : 0 ≤ v ∧ v < 343) : 0 ≤ dg pr v ∧ dg pr v ≤ 6 := by
  unfold dg
  repeat' split
  all_goals omega
theorem lst_dg {T : TT} (hT : TOk T) (ty : Int) : lst T ty % 7 = (if 0 < T.1 then T.2.2.1 0 else 0) ∧ lst T ty / 7 % 7 = (if 1 < T.1 then T.2.2.1 1 else 0) ∧ lst T ty / 49 = (if ty = 2 then T.2.2.1 2 else 0) := by
  have h0 := hT.2.2.1 0
  have h1 := hT.2.2.1 1
  have h2 := hT.2.2.1 2
  unfold lst
  by_cases a : 0 < T.1 <;> by_cases b : 1 < T.1 <;> by_cases c : ty = 2 <;> simp only [a, b, c, if_true, if_false] <;> omega
theorem lst_cnt {T : TT} (hT : TOk T) {ty pr : Int} (hp : 0 ≤ pr ∧ pr ≤ 2) (hc : pr < T.1 ∨ (pr = 2 ∧ ty = 2)) : dg pr (lst T ty) = T.2.2.1 pr := by
  have h := lst_dg hT ty
  have h1 := hT.1
  have : pr = 0 ∨ pr = 1 ∨ pr = 2 := by omega
  rcases this with e | e | e
  · subst e
    simp only [dg, if_true]
    rw [h.1, if_pos (by omega)]
  · subst e
    show lst T ty / 7 % 7 = _
    rw [h.2.1, if_pos (by omega)]
  · subst e
    show lst T ty / 49 = _
    rw [h.2.2, if_pos (by omega)]
theorem lst_off {T : TT} (hT : TOk T) {ty pr : Int} (hp : 0 ≤ pr ∧ pr ≤ 2) (hc : ¬ (pr < T.1 ∨ (pr = 2 ∧ ty = 2))) : dg pr (lst T ty) = 0 := by
  have h := lst_dg hT ty
  have h1 := hT.1
  have : pr = 0 ∨ pr = 1 ∨ pr = 2 := by omega
  rcases this with e | e | e
  · subst e
    show lst T ty % 7 = _
    rw [h.1, if_neg (by omega)]
  · subst e
    show lst T ty / 7 % 7 = _
    rw [h.2.1, if_neg (by omega)]
  · subst e
    show lst T ty / 49 = _
    rw [h.2.2, if_neg (by omega)]
theorem Vok_dg {T : TT} {ty v : Int} : Vok T ty v ↔ (0 ≤ v ∧ v < 343) ∧ ∀ pr, 0 ≤ pr → pr ≤ 2 → dg pr v ≤ dg pr (lst T ty) := by
  constructor
  · intro h
    refine ⟨h.1, fun pr a b => ?_⟩
    unfold dg
    repeat' split
    · exact h.2.1
    · exact h.2.2.1
    · exact h.2.2.2
  · intro h
    exact ⟨h.1, h.2 0 (by omega) (by omega), h.2 1 (by omega) (by omega), h.2 2 (by omega) (by omega)⟩
theorem dg_ext {v w : Int} (hv : 0 ≤ v ∧ v < 343) (hw : 0 ≤ w ∧ w < 343) (h : ∀ pr, 0 ≤ pr → pr ≤ 2 → dg pr v = dg pr w) : v = w := by
  have h0 : v % 7 = w % 7 := h 0 (by omega) (by omega)
  have h1 : v / 7 % 7 = w / 7 % 7 := h 1 (by omega) (by omega)
  have h2 : v / 49 = w / 49 := h 2 (by omega) (by omega)
  omega
theorem v_lst {T : TT} (hT : TOk T) {ty v : Int} (hv : Vok T ty v) (h : ∀ pr, 0 ≤ pr → pr ≤ 2 → (pr < T.1 ∨ (pr = 2 ∧ ty = 2)) → dg pr v = T.2.2.1 pr) : v = lst T ty := by
  refine dg_ext hv.1 (lst_bd hT) (fun pr a b => ?_)
  by_cases c : pr < T.1 ∨ (pr = 2 ∧ ty = 2)
  · rw [h pr a b c, lst_cnt hT ⟨a, b⟩ c]
  · have h1 := (Vok_dg.mp hv).2 pr a b
    have h2 := dg_bd (pr := pr) hv.1
    rw [lst_off hT ⟨a, b⟩ c] at h1 ⊢
    omega
theorem stp_eq (T : TT) (ty v a : Int) : stp T ty v a = if stI T ty 0 a (dg 0 v) < 0 ∨ stI T ty 1 a (dg 1 v) < 0 ∨ stI T ty 2 a (dg 2 v) < 0 then -1 else stI T ty 0 a (dg 0 v) + 7 * stI T ty 1 a (dg 1 v) + 49 * stI T ty 2 a (dg 2 v) := rfl
theorem stp_neg {T : TT} {ty v a pr : Int} (hp : 0 ≤ pr ∧ pr ≤ 2) (h : stI T ty pr a (dg pr v) < 0) : stp T ty v a = -1 := by
  rw [stp_eq]
  have : pr = 0 ∨ pr = 1 ∨ pr = 2 := by omega
  rcases this with e | e | e <;> subst e <;> rw [if_pos (by omega)]
theorem stp_pos {T : TT} (hT : TOk T) {ty v a : Int} (hv : 0 ≤ v ∧ v < 343) (h : ∀ pr, 0 ≤ pr → pr ≤ 2 → 0 ≤ stI T ty pr a (dg pr v)) : (0 ≤ stp T ty v a ∧ stp T ty v a < 343) ∧ ∀ pr, 0 ≤ pr → pr ≤ 2 → dg pr (stp T ty v a) = stI T ty pr a (dg pr v) := by
  have h0 := h 0 (by omega) (by omega)
  have h1 := h 1 (by omega) (by omega)
  have h2 := h 2 (by omega) (by omega)
  have b0 := stI_bd hT (ty := ty) (pr := 0) (a := a) (dg_bd (pr := 0) hv)
  have b1 := stI_bd hT (ty := ty) (pr := 1) (a := a) (dg_bd (pr := 1) hv)
  have b2 := stI_bd hT (ty := ty) (pr := 2) (a := a) (dg_bd (pr := 2) hv)
  rw [stp_eq, if_neg (by omega)]
  refine ⟨by omega, fun pr x y => ?_⟩
  have : pr = 0 ∨ pr = 1 ∨ pr = 2 := by omega
  rcases this with e | e | e
  · subst e
    generalize stI T ty 0 a (dg 0 v) = A at *
    show (A + 7 * _ + 49 * _) % 7 = A
    omega
  · subst e
    generalize stI T ty 1 a (dg 1 v) = A at *
    show (_ + 7 * A + 49 * _) / 7 % 7 = A
    omega
  · subst e
    generalize stI T ty 2 a (dg 2 v) = A at *
    show (_ + 7 * _ + 49 * A) / 49 = A
    omega
theorem stp_dig {T : TT} (hT : TOk T) {ty v a : Int} (hv : Vok T ty v) (h : 0 ≤ stp T ty v a) : (∀ pr, 0 ≤ pr → pr ≤ 2 → 0 ≤ stI T ty pr a (dg pr v)) ∧ (∀ pr, 0 ≤ pr → pr ≤ 2 → dg pr (stp T ty v a) = stI T ty pr a (dg pr v)) ∧ Vok T ty (stp T ty v a) := by
  have h1 : ∀ pr, 0 ≤ pr → pr ≤ 2 → 0 ≤ stI T ty pr a (dg pr v) := by
    intro pr x y
    rcases Int.lt_or_le (stI T ty pr a (dg pr v)) 0 with q | q
    · have := stp_neg ⟨x, y⟩ q
      omega
    · exact q
  obtain ⟨h2, h3⟩ := stp_pos hT hv.1 h1
  refine ⟨h1, h3, Vok_dg.mpr ⟨h2, fun pr x y => ?_⟩⟩
  rw [h3 pr x y]
  have h4 := h1 pr x y
  unfold stI at h4 ⊢
  by_cases c : pr < T.1 ∨ (pr = 2 ∧ ty = 2)
  · rw [if_pos c] at h4 ⊢
    rw [lst_cnt hT ⟨x, y⟩ c]
    exact (ldA_bd hT (dg_bd hv.1).1).2.2 h4
  · rw [if_neg c]
    exact (Vok_dg.mp hv).2 pr x y
theorem Vok_0 {T : TT} (hT : TOk T) (ty : Int) : Vok T ty 0 := by
  have := lst_bd hT (ty := ty)
  exact ⟨by omega, by omega, by omega, by omega⟩
theorem wz_v {T : TT} {ty k v : Int} (hk : 0 ≤ k) (hv : Vok T ty v) : wz T ty (k + 1) v = sumZ (wt T ty k v) 200 := by
  rw [wz_s _ _ _ hk, if_pos hv.2]
theorem wt_pos {T : TT} {ty k v a : Int} (h : gP T ty k v a) : 0 < wt T ty k v a := by
  unfold wt
  rw [if_pos h.1]
  exact h.2
theorem sumA_ge {f : FF} (h : ∀ a, 0 ≤ a → 0 ≤ f a) : ∀ n : Nat, 0 ≤ sumA f n ∧ ∀ a : Nat, a < n → f (a : Int) ≤ sumA f n
  | 0 => ⟨Int.le_refl _, fun a q => absurd q (by omega)⟩
  | n + 1 => by
    obtain ⟨h1, h2⟩ := sumA_ge h n
    have h3 := h n (by omega)
    simp only [sumA]
    refine ⟨by omega, fun a q => ?_⟩
    by_cases e : a = n
    · subst e; omega
    · have := h2 a (by omega); omega
theorem gP_wz {T : TT} {ty k v a : Int} (hk : 0 ≤ k) (hv : Vok T ty v) (ha : 0 ≤ a ∧ a < 200) (h : gP T ty k v a) : 0 < wz T ty (k + 1) v := by
  rw [wz_v hk hv]
  have h1 := (sumA_ge (f := wt T ty k v) (fun b _ => by
    unfold wt
    split
    · exact (wyN_bd T ty k.toNat _).1
    · omega) 200).2 a.toNat (by omega)
  rw [Int.toNat_of_nonneg ha.1] at h1
  have h2 := wt_pos h
  show 0 < sumA (wt T ty k v) 200
  omega
/-- a search's record: what was found in the first c atoms -/
def Sc (P : Int → Prop) (G : FF → Int → Prop) (fs0 : FF) (fd0 : Int) (fs : FF) (fd c : Int) : Prop := (fd0 = 1 → fd = 1 ∧ fs = fs0) ∧ (fd0 = 0 → (fd = 0 ∧ ∀ b, 0 ≤ b → b < c → ¬ P b) ∨ (fd = 1 ∧ ∃ b, 0 ≤ b ∧ b < c ∧ P b ∧ (∀ b', 0 ≤ b' → b' < b → ¬ P b') ∧ G fs b))
theorem Sc_0 {P : Int → Prop} {G : FF → Int → Prop} {fs : FF} {fd : Int} : Sc P G fs fd fs fd 0 := ⟨fun h => ⟨h, rfl⟩, fun h => Or.inl ⟨h, fun b x y => by omega⟩⟩
theorem Sc_non {P : Int → Prop} {G : FF → Int → Prop} {fs0 fs fs' : FF} {fd0 fd fd' c : Int} (h : Sc P G fs0 fd0 fs fd c) (hp : ¬ P c) (h1 : fd = 1 → fd' = 1 ∧ fs' = fs) (h0 : fd = 0 → fd' = 0) : Sc P G fs0 fd0 fs' fd' (c + 1) := by
  refine ⟨fun q => ?_, fun q => ?_⟩
  · obtain ⟨a, b⟩ := h.1 q
    obtain ⟨x, y⟩ := h1 a
    exact ⟨x, y.trans b⟩
  · rcases h.2 q with ⟨a, b⟩ | ⟨a, b, c1, c2, c3, c4, c5⟩
    · refine Or.inl ⟨h0 a, fun b' x y => ?_⟩
      by_cases e : b' = c
      · rw [e]; exact hp
      · exact b b' x (by omega)
    · obtain ⟨x, y⟩ := h1 a
      exact Or.inr ⟨x, b, c1, by omega, c3, c4, by rw [y]; exact c5⟩
theorem Sc_no {P : Int → Prop} {G : FF → Int → Prop} {fs0 fs : FF} {fd0 fd c : Int} (h : Sc P G fs0 fd0 fs fd c) (hp : ¬ P c) : Sc P G fs0 fd0 fs fd (c + 1) := Sc_non h hp (fun q => ⟨q, rfl⟩) (fun q => q)
theorem Sc_yes {P : Int → Prop} {G : FF → Int → Prop} {fs0 fs fs' : FF} {fd0 fd fd' c : Int} (hc : 0 ≤ c) (h : Sc P G fs0 fd0 fs fd c) (hp : P c) (h1 : fd = 1 → fd' = 1 ∧ fs' = fs) (h0 : fd = 0 → fd' = 1 ∧ G fs' c) : Sc P G fs0 fd0 fs' fd' (c + 1) := by
  refine ⟨fun q => ?_, fun q => ?_⟩
  · obtain ⟨a, b⟩ := h.1 q
    obtain ⟨x, y⟩ := h1 a
    exact ⟨x, y.trans b⟩
  · rcases h.2 q with ⟨a, b⟩ | ⟨a, b, c1, c2, c3, c4, c5⟩
    · obtain ⟨x, y⟩ := h0 a
      exact Or.inr ⟨x, c, hc, by omega, hp, b, y⟩
    · obtain ⟨x, y⟩ := h1 a
      exact Or.inr ⟨x, b, c1, by omega, c3, c4, by rw [y]; exact c5⟩
def NP (w : Int) (G : FF → Prop) (fs0 : FF) (fd0 : Int) (fs : FF) (fd : Int) : Prop := (fd0 = 1 → fd = 1 ∧ fs = fs0) ∧ (fd0 = 0 → (¬ 0 < w → fd = 0) ∧ (0 < w → fd = 1 ∧ G fs))
theorem Sc_end {T : TT} {ty left v : Int} {G : FF → Int → Prop} {fs0 fs : FF} {fd0 fd : Int} (hl : 0 ≤ left) (hv : Vok T ty v) (h : Sc (gP T ty left v) G fs0 fd0 fs fd 200) : NP (wz T ty (left + 1) v) (fun f => G f (fa T ty left v)) fs0 fd0 fs fd := by
  refine ⟨h.1, fun q => ⟨fun w => ?_, fun w => ?_⟩⟩
  · rcases h.2 q with ⟨a, -⟩ | ⟨a, b, c1, c2, c3, -, -⟩
    · exact a
    · exact absurd (gP_wz hl hv ⟨c1, c2⟩ c3) w
  · obtain ⟨f1, f2, f3⟩ := fa_pos hl w
    rcases h.2 q with ⟨a, b⟩ | ⟨a, b, c1, c2, c3, c4, c5⟩
    · exact absurd f3 (b _ f1 (by omega))
    · have e : b = fa T ty left v := fa_eq (by omega) c4 (Or.inr c3)
      rw [e] at c5
      exact ⟨a, c5⟩
end
section
set_option maxHeartbeats 4000000 in
set_option maxRecDepth 100000 in
theorem mM_place (l : Launch) (D : va_G) (ad : Nat → Nat) (cI : ClassId) (T : TT) (N : NN) (pos n : Int) (h1 : 0 ≤ n ∧ n ≤ 6) (h2 : 0 ≤ pos ∧ pos ≤ 13) : MI l D [(cI, .int)] yX1_place cX1_place 3 .int 0 0 [.ref (ad 0), .int (zI pos), .int (zI n)] (wM ad cI T N) (fun z (_ : Unit) => z = pl n pos) (fun _ => wM ad cI T N) := by
  refine MI.of RX1 (by decide) rfl (Nat.le_of_ble_eq_true rfl) [(0, .ref (ad 0)), (1, .int (zI pos)), (2, .int (zI n))] rfl ?_
  intro p e s m args below meth c A Q E ret ls h hl
  refine z_iload_n E dX1_place_0 hl 1 rfl ?_
  refine z_bipush E dX1_place_1 (by decide +kernel) ?_
  refine z_icmp_ge E 17 dX1_place_3 (by decide) (by omega) (fun c1 => ?_) (fun c1 => ?_)
  · have c1 : (7 : Int) ≤ (pos : Int) := c1
    refine z_iload_n E dX1_place_17 hl 1 rfl ?_
    refine z_bipush E dX1_place_18 (by decide +kernel) ?_
    refine z_isub E dX1_place_20 ?_
    refine z_iload_n E dX1_place_21 hl 2 rfl ?_
    refine z_icmp_gt E 34 dX1_place_22 (by decide) (by omega) (fun c2 => ?_) (fun c2 => ?_)
    · have c2 : (n : Int) < (pos - 7 : Int) := c2
      refine z_iconst E dX1_place_34 ?_
      exact ret () dX1_place_35 rfl (by unfold pl; (repeat' split) <;> omega) h
    · have c2 : (pos - 7 : Int) ≤ (n : Int) := c2
      refine z_iload_n E dX1_place_25 hl 2 rfl ?_
      refine z_iload_n E dX1_place_26 hl 1 rfl ?_
      refine z_isub E dX1_place_27 ?_
      refine z_bipush E dX1_place_28 (by decide +kernel) ?_
      refine z_iadd E dX1_place_30 ?_
      refine z_goto E 35 dX1_place_31 (by decide) ?_
      exact ret () dX1_place_35 rfl (by unfold pl; (repeat' split) <;> omega) h
  · have c1 : (pos : Int) < (7 : Int) := c1
    refine z_iload_n E dX1_place_6 hl 1 rfl ?_
    refine z_iload_n E dX1_place_7 hl 2 rfl ?_
    refine z_icmp_gt E 15 dX1_place_8 (by decide) (by omega) (fun c2 => ?_) (fun c2 => ?_)
    · have c2 : (n : Int) < (pos : Int) := c2
      refine z_iconst E dX1_place_15 ?_
      exact ret () dX1_place_16 rfl (by unfold pl; (repeat' split) <;> omega) h
    · have c2 : (pos : Int) ≤ (n : Int) := c2
      refine z_iload_n E dX1_place_11 hl 1 rfl ?_
      refine z_goto E 16 dX1_place_12 (by decide) ?_
      exact ret () dX1_place_16 rfl (by unfold pl; (repeat' split) <;> omega) h
set_option maxHeartbeats 4000000 in
set_option maxRecDepth 100000 in
theorem mM_size (l : Launch) (D : va_G) (ad : Nat → Nat) (cI : ClassId) (T : TT) (N : NN) (atom pair : Int) (hT : TOk T) (h1 : 0 ≤ pair ∧ pair ≤ 2) (h2 : 0 ≤ atom ∧ atom < 200) : MI l D [(cI, .int)] yX1_size cX1_size 5 .int 1 22 [.ref (ad 0), .int (zI atom), .int (zI pair)] (wM ad cI T N) (fun z (_ : Unit) => z = szA (T.2.1 pair) atom) (fun _ => wM ad cI T N) := by
  refine MI.of RX1 (by decide) rfl (Nat.le_of_ble_eq_true rfl) [(0, .ref (ad 0)), (1, .int (zI atom)), (2, .int (zI pair))] rfl ?_
  intro p e s m args below meth c A Q E ret ls h hl
  refine z_iload_n E dX1_size_0 hl 1 rfl ?_
  refine z_iconst E dX1_size_1 ?_
  refine z_icmp_ge E 7 dX1_size_2 (by decide) (by omega) (fun c1 => ?_) (fun c1 => ?_)
  · have c1 : (4 : Int) ≤ (atom : Int) := c1
    refine z_aload_n E dX1_size_7 hl 0 rfl ?_
    refine z_iload_n E dX1_size_8 hl 1 rfl ?_
    refine z_iconst E dX1_size_9 ?_
    refine z_isub E dX1_size_10 ?_
    refine z_bipush E dX1_size_11 (by decide +kernel) ?_
    refine z_idiv E dX1_size_13 (by omega) (by omega) ?_
    refine z_aload_n E dX1_size_14 hl 0 rfl ?_
    refine gM_il E h dX1_size_15 ?_
    refine z_iload_n E dX1_size_18 hl 2 rfl ?_
    refine lM_il E h (by omega) dX1_size_19 (fun x1 ex1 => ?_)
    have ex1 : x1 = T.2.1 pair := ex1
    have b1 := hT.2.1 pair
    refine z_call (n := 2) (rest := []) E h (mM_place l D ad cI T N ((atom - 4) / 14) x1 (by omega) (by omega)) q310 q312 qs26 q34 q313 (by decide +kernel) ⟨Nat.le_of_ble_eq_true rfl, Nat.le_of_ble_eq_true rfl⟩ ⟨Nat.le_refl _, Nat.le_refl _⟩ rfl rfl rfl hl.1 (Nat.le_of_ble_eq_true rfl) rfl dX1_size_20 (fun r1 ur1 H locs er1 h => ?_)
    have br1 := pl_bd (show 0 ≤ x1 ∧ x1 ≤ 6 by omega) (show 0 ≤ (atom - 4) / 14 by omega)
    have h : ZH D A s.heap (wM ad cI T N) H locs := h
    refine z_istore_n E [(0, .ref (ad 0)), (1, .int (zI atom)), (2, .int (zI pair)), (3, .int (zI r1))] dX1_size_23 hl (by decide) [1, 2, 3, 0] rfl (fun ls hl => ?_)
    refine z_aload_n E dX1_size_24 hl 0 rfl ?_
    refine z_iload_n E dX1_size_25 hl 1 rfl ?_
    refine z_iconst E dX1_size_26 ?_
    refine z_isub E dX1_size_27 ?_
    refine z_bipush E dX1_size_28 (by decide +kernel) ?_
    refine z_irem E dX1_size_30 (by omega) (by omega) ?_
    refine z_aload_n E dX1_size_31 hl 0 rfl ?_
    refine gM_il E h dX1_size_32 ?_
    refine z_iload_n E dX1_size_35 hl 2 rfl ?_
    refine lM_il E h (by omega) dX1_size_36 (fun x2 ex2 => ?_)
    have ex2 : x2 = T.2.1 pair := ex2
    have b2 := hT.2.1 pair
    refine z_call (n := 2) (rest := []) E h (mM_place l D ad cI T N ((atom - 4) % 14) x2 (by omega) (by omega)) q310 q312 qs26 q34 q313 (by decide +kernel) ⟨Nat.le_of_ble_eq_true rfl, Nat.le_of_ble_eq_true rfl⟩ ⟨Nat.le_refl _, Nat.le_refl _⟩ rfl rfl rfl hl.1 (Nat.le_of_ble_eq_true rfl) rfl dX1_size_37 (fun r2 ur2 H locs er2 h => ?_)
    have br2 := pl_bd (show 0 ≤ x2 ∧ x2 ≤ 6 by omega) (show 0 ≤ (atom - 4) % 14 by omega)
    have h : ZH D A s.heap (wM ad cI T N) H locs := h
    refine z_istore E [(0, .ref (ad 0)), (1, .int (zI atom)), (2, .int (zI pair)), (3, .int (zI r1)), (4, .int (zI r2))] dX1_size_40 hl (by decide) [1, 2, 3, 4, 0] rfl (fun ls hl => ?_)
    refine z_iload_n E dX1_size_42 hl 3 rfl ?_
    refine z_if_lt E 59 dX1_size_43 (by decide) (by omega) (fun c2 => ?_) (fun c2 => ?_)
    · have c2 : (r1 : Int) < (0 : Int) := c2
      refine z_iconst E dX1_size_59 ?_
      exact ret () dX1_size_60 rfl (by rw [ex1] at er1; rw [ex2] at er2; unfold szA; (repeat' split) <;> omega) h
    · have c2 : (0 : Int) ≤ (r1 : Int) := c2
      refine z_iload E dX1_size_46 hl 4 rfl ?_
      refine z_iload_n E dX1_size_48 hl 3 rfl ?_
      refine z_icmp_le E 59 dX1_size_49 (by decide) (by omega) (fun c3 => ?_) (fun c3 => ?_)
      · have c3 : (r2 : Int) ≤ (r1 : Int) := c3
        refine z_iconst E dX1_size_59 ?_
        exact ret () dX1_size_60 rfl (by rw [ex1] at er1; rw [ex2] at er2; unfold szA; (repeat' split) <;> omega) h
      · have c3 : (r1 : Int) < (r2 : Int) := c3
        refine z_iload E dX1_size_52 hl 4 rfl ?_
        refine z_iload_n E dX1_size_54 hl 3 rfl ?_
        refine z_isub E dX1_size_55 ?_
        refine z_goto E 60 dX1_size_56 (by decide) ?_
        exact ret () dX1_size_60 rfl (by rw [ex1] at er1; rw [ex2] at er2; unfold szA; (repeat' split) <;> omega) h
  · have c1 : (atom : Int) < (4 : Int) := c1
    refine z_iconst E dX1_size_5 ?_
    exact ret () dX1_size_6 rfl (by unfold szA; rw [if_pos (by omega)]) h
set_option maxHeartbeats 4000000 in
set_option maxRecDepth 100000 in
theorem mM_letter (l : Launch) (D : va_G) (ad : Nat → Nat) (cI : ClassId) (T : TT) (N : NN) (atom pair i : Int) (hT : TOk T) (h1 : 0 ≤ pair ∧ pair ≤ 2) (h2 : 0 ≤ atom ∧ atom < 200) (h3 : 0 ≤ i ∧ i < szA (T.2.1 pair) atom) : MI l D [(cI, .int)] yX1_letter cX1_letter 6 .int 1 22 [.ref (ad 0), .int (zI atom), .int (zI pair), .int (zI i)] (wM ad cI T N) (fun z (_ : Unit) => z = ltA (T.2.1 pair) T.2.2.2.1 pair atom i) (fun _ => wM ad cI T N) := by
  refine MI.of RX1 (by decide) rfl (Nat.le_of_ble_eq_true rfl) [(0, .ref (ad 0)), (1, .int (zI atom)), (2, .int (zI pair)), (3, .int (zI i))] rfl ?_
  intro p e s m args below meth c A Q E ret ls h hl
  refine z_iload_n E dX1_letter_0 hl 1 rfl ?_
  refine z_iconst E dX1_letter_1 ?_
  refine z_icmp_ge E 7 dX1_letter_2 (by decide) (by omega) (fun c1 => ?_) (fun c1 => ?_)
  · have c1 : (4 : Int) ≤ (atom : Int) := c1
    refine z_aload_n E dX1_letter_7 hl 0 rfl ?_
    refine z_iload_n E dX1_letter_8 hl 1 rfl ?_
    refine z_iconst E dX1_letter_9 ?_
    refine z_isub E dX1_letter_10 ?_
    refine z_bipush E dX1_letter_11 (by decide +kernel) ?_
    refine z_idiv E dX1_letter_13 (by omega) (by omega) ?_
    refine z_aload_n E dX1_letter_14 hl 0 rfl ?_
    refine gM_il E h dX1_letter_15 ?_
    refine z_iload_n E dX1_letter_18 hl 2 rfl ?_
    refine lM_il E h (by omega) dX1_letter_19 (fun x1 ex1 => ?_)
    have ex1 : x1 = T.2.1 pair := ex1
    have b1 := hT.2.1 pair
    refine z_call (n := 2) (rest := []) E h (mM_place l D ad cI T N ((atom - 4) / 14) x1 (by omega) (by omega)) q310 q312 qs26 q34 q313 (by decide +kernel) ⟨Nat.le_of_ble_eq_true rfl, Nat.le_of_ble_eq_true rfl⟩ ⟨Nat.le_refl _, Nat.le_refl _⟩ rfl rfl rfl hl.1 (Nat.le_of_ble_eq_true rfl) rfl dX1_letter_20 (fun r1 ur1 H locs er1 h => ?_)
    have br1 := pl_bd (show 0 ≤ x1 ∧ x1 ≤ 6 by omega) (show 0 ≤ (atom - 4) / 14 by omega)
    have h : ZH D A s.heap (wM ad cI T N) H locs := h
    have bs := szA_in (hT.2.1 pair) (show 4 ≤ atom by omega) (by omega)
    have bn := hT.2.1 pair
    rw [ex1] at er1
    refine z_istore E [(0, .ref (ad 0)), (1, .int (zI atom)), (2, .int (zI pair)), (3, .int (zI i)), (4, .int (zI r1))] dX1_letter_23 hl (by decide) [1, 2, 3, 4, 0] rfl (fun ls hl => ?_)
    refine z_iload E dX1_letter_25 hl 4 rfl ?_
    refine z_iload_n E dX1_letter_27 hl 3 rfl ?_
    refine z_iadd E dX1_letter_28 ?_
    refine z_istore E [(0, .ref (ad 0)), (1, .int (zI atom)), (2, .int (zI pair)), (3, .int (zI i)), (4, .int (zI r1)), (5, .int (zI (r1 + i)))] dX1_letter_29 hl (by decide) [1, 2, 3, 4, 5, 0] rfl (fun ls hl => ?_)
    refine z_iload E dX1_letter_31 hl 5 rfl ?_
    refine z_if_lt E 58 dX1_letter_33 (by decide) (by omega) (fun c2 => ?_) (fun c2 => ?_)
    · have c2 : (r1 + i : Int) < (0 : Int) := c2
      refine z_iconst E dX1_letter_58 ?_
      exact ret () dX1_letter_59 rfl (by exfalso; omega) h
    · have c2 : (0 : Int) ≤ (r1 + i : Int) := c2
      refine z_iload E dX1_letter_36 hl 5 rfl ?_
      refine z_bipush E dX1_letter_38 (by decide +kernel) ?_
      refine z_icmp_ge E 58 dX1_letter_40 (by decide) (by omega) (fun c3 => ?_) (fun c3 => ?_)
      · have c3 : (6 : Int) ≤ (r1 + i : Int) := c3
        refine z_iconst E dX1_letter_58 ?_
        exact ret () dX1_letter_59 rfl (by exfalso; omega) h
      · have c3 : (r1 + i : Int) < (6 : Int) := c3
        refine z_aload_n E dX1_letter_43 hl 0 rfl ?_
        refine gM_iL E h dX1_letter_44 ?_
        refine z_iload_n E dX1_letter_47 hl 2 rfl ?_
        refine z_bipush E dX1_letter_48 (by decide +kernel) ?_
        refine z_imul E dX1_letter_50 ?_
        refine z_iload E dX1_letter_51 hl 5 rfl ?_
        refine z_iadd E dX1_letter_53 ?_
        refine lM_iL E h (by omega) dX1_letter_54 (fun x2 ex2 => ?_)
        have ex2 : x2 = T.2.2.2.1 ((pair * 6) + (r1 + i)) := ex2
        have b2 := hT.2.2.2.1 ((pair * 6) + (r1 + i))
        refine z_goto E 59 dX1_letter_55 (by decide) ?_
        exact ret () dX1_letter_59 rfl (by unfold ltA; rw [if_neg (by omega), ex2]; exact congrArg T.2.2.2.1 (by omega)) h
  · have c1 : (atom : Int) < (4 : Int) := c1
    refine z_iload_n E dX1_letter_5 hl 1 rfl ?_
    exact ret () dX1_letter_6 rfl (by unfold ltA; rw [if_pos (by omega)]) h
set_option maxHeartbeats 4000000 in
set_option maxRecDepth 100000 in
theorem mM_after (l : Launch) (D : va_G) (ad : Nat → Nat) (cI : ClassId) (T : TT) (N : NN) (atom pair so : Int) (hT : TOk T) (h1 : 0 ≤ pair ∧ pair ≤ 2) (h2 : 0 ≤ atom ∧ atom < 200) (h3 : 0 ≤ so ∧ so ≤ 6) : MI l D [(cI, .int)] yX1_after cX1_after 6 .int 2 47 [.ref (ad 0), .int (zI atom), .int (zI pair), .int (zI so)] (wM ad cI T N) (fun z (_ : Unit) => z = ldA T pair atom so) (fun _ => wM ad cI T N) := by
  refine MI.of RX1 (by decide) rfl (Nat.le_of_ble_eq_true rfl) [(0, .ref (ad 0)), (1, .int (zI atom)), (2, .int (zI pair)), (3, .int (zI so))] rfl ?_
  intro p e s m args below meth c A Q E ret ls h hl
  refine z_aload_n E dX1_after_0 hl 0 rfl ?_
  refine z_iload_n E dX1_after_1 hl 1 rfl ?_
  refine z_iload_n E dX1_after_2 hl 2 rfl ?_
  refine z_call (n := 2) (rest := []) E h (mM_size l D ad cI T N atom pair hT (by omega) (by omega)) q306 q308 qs25 q34 q309 (by decide +kernel) ⟨Nat.le_of_ble_eq_true rfl, Nat.le_of_ble_eq_true rfl⟩ ⟨Nat.le_refl _, Nat.le_refl _⟩ rfl rfl rfl hl.1 (Nat.le_of_ble_eq_true rfl) rfl dX1_after_3 (fun r1 ur1 H locs er1 h => ?_)
  have br1 := szA_bd (hT.2.1 pair) (show 0 ≤ atom by omega)
  have h : ZH D A s.heap (wM ad cI T N) H locs := h
  refine z_istore E [(0, .ref (ad 0)), (1, .int (zI atom)), (2, .int (zI pair)), (3, .int (zI so)), (4, .int (zI r1))] dX1_after_6 hl (by decide) [1, 2, 3, 4, 0] rfl (fun ls hl => ?_)
  refine z_iload E dX1_after_8 hl 4 rfl ?_
  refine z_if_eq E 30 dX1_after_10 (by decide) (by omega) (fun c1 => ?_) (fun c1 => ?_)
  · have c1 : (r1 : Int) = (0 : Int) := c1
    refine z_iconst E dX1_after_30 ?_
    exact ret () dX1_after_31 rfl ((ldA_n (fun q => by have := q.1; omega)).symm) h
  · have c1 : (r1 : Int) ≠ (0 : Int) := c1
    refine z_iload_n E dX1_after_13 hl 3 rfl ?_
    refine z_if_lt E 30 dX1_after_14 (by decide) (by omega) (fun c2 => ?_) (fun c2 => ?_)
    · have c2 : (so : Int) < (0 : Int) := c2
      exfalso; omega
    · have c2 : (0 : Int) ≤ (so : Int) := c2
      refine z_iload_n E dX1_after_17 hl 3 rfl ?_
      refine z_iload E dX1_after_18 hl 4 rfl ?_
      refine z_iadd E dX1_after_20 ?_
      refine z_aload_n E dX1_after_21 hl 0 rfl ?_
      refine gM_ol E h dX1_after_22 ?_
      refine z_iload_n E dX1_after_25 hl 2 rfl ?_
      refine lM_ol E h (by omega) dX1_after_26 (fun x1 ex1 => ?_)
      have ex1 : x1 = T.2.2.1 pair := ex1
      have b1 := hT.2.2.1 pair
      refine z_icmp_le E 32 dX1_after_27 (by decide) (by omega) (fun c3 => ?_) (fun c3 => ?_)
      · have c3 : (so + r1 : Int) ≤ (x1 : Int) := c3
        refine z_iconst E dX1_after_32 ?_
        refine z_istore E [(0, .ref (ad 0)), (1, .int (zI atom)), (2, .int (zI pair)), (3, .int (zI so)), (4, .int (zI r1)), (5, .int (zI 0))] dX1_after_33 hl (by decide) [1, 2, 3, 4, 5, 0] rfl (fun ls hl => ?_)
        have loop35 : ∀ (n35 : Nat) (i : Int) (H : Heap) (locs : List Loc) (ls : Array Slot), (r1 - i) < (n35 : Int) → (0 ≤ i ∧ i ≤ r1) → (∀ k, 0 ≤ k → k < i → ltA (T.2.1 pair) T.2.2.2.1 pair atom k = T.2.2.2.2 (pair * 6 + so + k)) → ZH D A s.heap (wM ad cI T N) H locs → lv_has ls 6 [(0, .ref (ad 0)), (1, .int (zI atom)), (2, .int (zI pair)), (3, .int (zI so)), (4, .int (zI r1)), (5, .int (zI i))] → W p l e ({ frames := 2, cells := 0, slots := 0, locals := 47 } : Room) s m args below meth c H locs 0 0 Q (F0 m 35 ls []) := by
          intro n35
          induction n35 with
          | zero =>
            intro i H locs ls hm35 hi ha h hl
            exfalso; omega
          | succ n35 ih35 =>
            intro i H locs ls hm35 hi ha h hl
            refine z_iload E dX1_after_35 hl 5 rfl ?_
            refine z_iload E dX1_after_37 hl 4 rfl ?_
            refine z_icmp_ge E 75 dX1_after_39 (by decide) (by omega) (fun c4 => ?_) (fun c4 => ?_)
            · have c4 : (r1 : Int) ≤ (i : Int) := c4
              refine z_iload_n E dX1_after_75 hl 3 rfl ?_
              refine z_iload E dX1_after_76 hl 4 rfl ?_
              refine z_iadd E dX1_after_78 ?_
              exact ret () dX1_after_79 rfl (by rw [ldA_y ⟨by omega, by omega, fun k a b => ha k a (by omega)⟩, er1]) h
            · have c4 : (i : Int) < (r1 : Int) := c4
              refine z_aload_n E dX1_after_42 hl 0 rfl ?_
              refine z_iload_n E dX1_after_43 hl 1 rfl ?_
              refine z_iload_n E dX1_after_44 hl 2 rfl ?_
              refine z_iload E dX1_after_45 hl 5 rfl ?_
              refine z_call (n := 3) (rest := []) E h (mM_letter l D ad cI T N atom pair i hT (by omega) (by omega) (by omega)) q314 q316 qs27 q34 q317 (by decide +kernel) ⟨Nat.le_of_ble_eq_true rfl, Nat.le_of_ble_eq_true rfl⟩ ⟨Nat.le_refl _, Nat.le_refl _⟩ rfl rfl rfl hl.1 (Nat.le_of_ble_eq_true rfl) rfl dX1_after_47 (fun r2 ur2 H locs er2 h => ?_)
              have br2 := ltA_bd hT (n := T.2.1 pair) (pr := pair) (i := i) (show 0 ≤ atom ∧ atom < 200 by omega)
              have h : ZH D A s.heap (wM ad cI T N) H locs := h
              refine z_aload_n E dX1_after_50 hl 0 rfl ?_
              refine gM_oL E h dX1_after_51 ?_
              refine z_iload_n E dX1_after_54 hl 2 rfl ?_
              refine z_bipush E dX1_after_55 (by decide +kernel) ?_
              refine z_imul E dX1_after_57 ?_
              refine z_iload_n E dX1_after_58 hl 3 rfl ?_
              refine z_iadd E dX1_after_59 ?_
              refine z_iload E dX1_after_60 hl 5 rfl ?_
              refine z_iadd E dX1_after_62 ?_
              refine lM_oL E h (by omega) dX1_after_63 (fun x2 ex2 => ?_)
              have ex2 : x2 = T.2.2.2.2 (((pair * 6) + so) + i) := ex2
              have b2 := hT.2.2.2.2 (((pair * 6) + so) + i)
              refine z_icmp_eq E 69 dX1_after_64 (by decide) (by omega) (fun c5 => ?_) (fun c5 => ?_)
              · have c5 : (r2 : Int) = (x2 : Int) := c5
                refine z_iinc E [(0, .ref (ad 0)), (1, .int (zI atom)), (2, .int (zI pair)), (3, .int (zI so)), (4, .int (zI r1)), (5, .int (zI (i + 1)))] dX1_after_69 hl 5 rfl (by decide) [1, 2, 3, 4, 5, 0] rfl (fun ls hl => ?_)
                refine z_goto E 35 dX1_after_72 (by decide) ?_
                exact ih35 (i + 1) _ _ _ (by omega) (by omega) (fun k a b => by
            by_cases q : k = i
            · rw [q, ← er2, ← ex2]; exact c5
            · exact ha k a (by omega)) h (lv_sub hl [0, 1, 2, 3, 4, 5] rfl)
              · have c5 : (r2 : Int) ≠ (x2 : Int) := c5
                refine z_iconst E dX1_after_67 ?_
                exact ret () dX1_after_68 rfl ((ldA_n (fun q => absurd (q.2.2 i hi.1 (by omega)) (by rw [← er2, ← ex2]; exact c5))).symm) h
        exact loop35 100 0 _ _ _ (by omega) (by omega) (fun k a b => by omega) h (lv_sub hl [0, 1, 2, 3, 4, 5] rfl)
      · have c3 : (x1 : Int) < (so + r1 : Int) := c3
        refine z_iconst E dX1_after_30 ?_
        exact ret () dX1_after_31 rfl ((ldA_n (fun q => by have := q.2.1; omega)).symm) h
set_option maxHeartbeats 4000000 in
set_option maxRecDepth 100000 in
theorem mM_counts (l : Launch) (D : va_G) (ad : Nat → Nat) (cI : ClassId) (T : TT) (N : NN) (pair t : Int) (hT : TOk T) (h1 : 0 ≤ pair ∧ pair ≤ 2) (ht : t = 0 ∨ t = 1) : MI l D [(cI, .int)] yX1_counts cX1_counts 3 .boolean 0 0 [.ref (ad 0), .int (zI pair), .int (zI t)] (wM ad cI T N) (fun z (_ : Unit) => (z = 0 ∨ z = 1) ∧ (z = 1 ↔ (pair < T.1 ∨ (pair = 2 ∧ t = 1)))) (fun _ => wM ad cI T N) := by
  refine MI.of RX1 (by decide) rfl (Nat.le_of_ble_eq_true rfl) [(0, .ref (ad 0)), (1, .int (zI pair)), (2, .int (zI t))] rfl ?_
  intro p e s m args below meth c A Q E ret ls h hl
  refine z_iload_n E dX1_counts_0 hl 1 rfl ?_
  refine z_aload_n E dX1_counts_1 hl 0 rfl ?_
  refine gM_ex (ex := T.1) E h dX1_counts_2 ?_
  have b1 := hT.1
  refine z_icmp_lt E 17 dX1_counts_5 (by decide) (by omega) (fun c1 => ?_) (fun c1 => ?_)
  · have c1 : (pair : Int) < (T.1 : Int) := c1
    refine z_iconst E dX1_counts_17 ?_
    refine z_goto E 22 dX1_counts_18 (by decide) ?_
    exact ret () dX1_counts_22 (zI_bool (by omega)).1 (⟨by omega, ⟨fun q => by omega, fun q => by omega⟩⟩) h
  · have c1 : (T.1 : Int) ≤ (pair : Int) := c1
    refine z_iload_n E dX1_counts_8 hl 1 rfl ?_
    refine z_iconst E dX1_counts_9 ?_
    refine z_icmp_ne E 21 dX1_counts_10 (by decide) (by omega) (fun c2 => ?_) (fun c2 => ?_)
    · have c2 : (pair : Int) ≠ (2 : Int) := c2
      refine z_iconst E dX1_counts_21 ?_
      exact ret () dX1_counts_22 (zI_bool (by omega)).1 (⟨by omega, ⟨fun q => by omega, fun q => by omega⟩⟩) h
    · have c2 : (pair : Int) = (2 : Int) := c2
      refine z_iload_n E dX1_counts_13 hl 2 rfl ?_
      refine z_if_eq E 21 dX1_counts_14 (by decide) (by omega) (fun c3 => ?_) (fun c3 => ?_)
      · have c3 : (t : Int) = (0 : Int) := c3
        refine z_iconst E dX1_counts_21 ?_
        exact ret () dX1_counts_22 (zI_bool (by omega)).1 (⟨by omega, ⟨fun q => by omega, fun q => by omega⟩⟩) h
      · have c3 : (t : Int) ≠ (0 : Int) := c3
        refine z_iconst E dX1_counts_17 ?_
        refine z_goto E 22 dX1_counts_18 (by decide) ?_
        exact ret () dX1_counts_22 (zI_bool (by omega)).1 (⟨by omega, ⟨fun q => by omega, fun q => by omega⟩⟩) h
set_option maxHeartbeats 4000000 in
set_option maxRecDepth 100000 in
theorem mM_put (l : Launch) (D : va_G) (ad : Nat → Nat) (cI : ClassId) (T : TT) (N : NN) (atom level t : Int) (ty : Int) (v : Int) (hT : TOk T) (hN : NB N) (h2 : 0 ≤ atom ∧ atom < 200) (h3 : 0 ≤ level ∧ level ≤ 2) (ht : t = 0 ∨ t = 1) (hty : ty = 2 * t) (hv : Vok T ty v) (hE : Enc T ty N.1 level v) : MI l D [(cI, .int)] yX1_put cX1_put 6 .boolean 3 72 [.ref (ad 0), .int (zI atom), .int (zI level), .int (zI t)] (wM ad cI T N) (fun z (u : FF) => (z = 0 ∨ z = 1) ∧ (z = 1 ↔ 0 ≤ stp T ty v atom) ∧ (z = 1 → Enc T ty u (level + 1) (stp T ty v atom)) ∧ (∀ j, j < level * 3 + 3 → u j = N.1 j) ∧ (∀ j, 0 ≤ u j ∧ u j ≤ 6)) (fun u => wM ad cI T (u, N.2.1, N.2.2.1, N.2.2.2)) := by
  refine MI.of RX1 (by decide) rfl (Nat.le_of_ble_eq_true rfl) [(0, .ref (ad 0)), (1, .int (zI atom)), (2, .int (zI level)), (3, .int (zI t))] rfl ?_
  intro p e s m args below meth c A Q E ret ls h hl
  refine z_iconst E dX1_put_0 ?_
  refine z_istore E [(0, .ref (ad 0)), (1, .int (zI atom)), (2, .int (zI level)), (3, .int (zI t)), (4, .int (zI 0))] dX1_put_1 hl (by decide) [1, 2, 3, 4, 0] rfl (fun ls hl => ?_)
  have loop3 : ∀ (n3 : Nat) (pr : Int) (md : FF) (H : Heap) (locs : List Loc) (ls : Array Slot), (3 - pr) < (n3 : Int) → (0 ≤ pr ∧ pr ≤ 3) → (∀ j, j < level * 3 + 3 → md j = N.1 j) → (∀ j, 0 ≤ md j ∧ md j ≤ 6) → (∀ p, 0 ≤ p → p < pr → 0 ≤ stI T ty p atom (dg p v) ∧ ((p < T.1 ∨ (p = 2 ∧ ty = 2)) → md (level * 3 + 3 + p) = stI T ty p atom (dg p v))) → ZH D A s.heap (wM ad cI T (md, N.2.1, N.2.2.1, N.2.2.2)) H locs → lv_has ls 6 [(0, .ref (ad 0)), (1, .int (zI atom)), (2, .int (zI level)), (3, .int (zI t)), (4, .int (zI pr))] → W p l e ({ frames := 3, cells := 0, slots := 0, locals := 72 } : Room) s m args below meth c H locs 0 0 Q (F0 m 3 ls []) := by
    intro n3
    induction n3 with
    | zero =>
      intro pr md H locs ls hm3 hp hkp hmb hq h hl
      exfalso; omega
    | succ n3 ih3 =>
      intro pr md H locs ls hm3 hp hkp hmb hq h hl
      refine z_iload E dX1_put_3 hl 4 rfl ?_
      refine z_iconst E dX1_put_5 ?_
      refine z_icmp_ge E 67 dX1_put_6 (by decide) (by omega) (fun c1 => ?_) (fun c1 => ?_)
      · have c1 : (3 : Int) ≤ (pr : Int) := c1
        refine z_iconst E dX1_put_67 ?_
        exact ret md dX1_put_68 (zI_bool (by omega)).1 (⟨by omega, ⟨fun q => (stp_pos hT hv.1 (fun p a b => (hq p a (by omega)).1)).1.1, fun q => rfl⟩, fun _ p a b c => by rw [show (level + 1) * 3 + p = level * 3 + 3 + p by omega, (hq p a (by omega)).2 c]; exact ((stp_pos hT hv.1 (fun p a b => (hq p a (by omega)).1)).2 p a b).symm, hkp, hmb⟩) h
      · have c1 : (pr : Int) < (3 : Int) := c1
        refine z_aload_n E dX1_put_9 hl 0 rfl ?_
        refine z_iload E dX1_put_10 hl 4 rfl ?_
        refine z_iload_n E dX1_put_12 hl 3 rfl ?_
        refine z_call (n := 2) (rest := []) E h (mM_counts l D ad cI T (md, N.2.1, N.2.2.1, N.2.2.2) pr t hT (by omega) (by omega)) q298 q300 qs23 q34 q301 (by decide +kernel) ⟨Nat.le_of_ble_eq_true rfl, Nat.le_of_ble_eq_true rfl⟩ ⟨Nat.le_refl _, Nat.le_refl _⟩ rfl rfl rfl hl.1 (Nat.le_of_ble_eq_true rfl) rfl dX1_put_13 (fun r1 ur1 H locs er1 h => ?_)
        have h : ZH D A s.heap (wM ad cI T (md, N.2.1, N.2.2.1, N.2.2.2)) H locs := h
        refine z_if_eq E 61 dX1_put_16 (by decide) (by omega) (fun c2 => ?_) (fun c2 => ?_)
        · have c2 : (r1 : Int) = (0 : Int) := c2
          refine z_iinc E [(0, .ref (ad 0)), (1, .int (zI atom)), (2, .int (zI level)), (3, .int (zI t)), (4, .int (zI (pr + 1)))] dX1_put_61 hl 4 rfl (by decide) [1, 2, 3, 4, 0] rfl (fun ls hl => ?_)
          refine z_goto E 3 dX1_put_64 (by decide) ?_
          exact ih3 (pr + 1) md _ _ _ (by omega) (by omega) (hkp) (hmb) (fun p a b => by
              by_cases q : p = pr
              · rw [q]; exact ⟨by unfold stI; rw [if_neg (by omega)]; exact (dg_bd hv.1).1, fun w => by omega⟩
              · exact hq p a (by omega)) h (lv_sub hl [0, 1, 2, 3, 4] rfl)
        · have c2 : (r1 : Int) ≠ (0 : Int) := c2
          refine z_aload_n E dX1_put_19 hl 0 rfl ?_
          refine z_iload_n E dX1_put_20 hl 1 rfl ?_
          refine z_iload E dX1_put_21 hl 4 rfl ?_
          refine z_aload_n E dX1_put_23 hl 0 rfl ?_
          refine gM_md E h dX1_put_24 ?_
          refine z_iload_n E dX1_put_27 hl 2 rfl ?_
          refine z_iconst E dX1_put_28 ?_
          refine z_imul E dX1_put_29 ?_
          refine z_iload E dX1_put_30 hl 4 rfl ?_
          refine z_iadd E dX1_put_32 ?_
          refine lM_md E h (by omega) dX1_put_33 (fun x1 ex1 => ?_)
          have ex1 : x1 = md ((level * 3) + pr) := ex1
          have b1 := hmb ((level * 3) + pr)
          have hx1 : x1 = dg pr v := by rw [ex1, hkp _ (by omega)]; exact hE pr (by omega) (by omega) (by omega)
          refine z_call (n := 3) (rest := []) E h (mM_after l D ad cI T (md, N.2.1, N.2.2.1, N.2.2.2) atom pr x1 hT (by omega) (by omega) (by omega)) q302 q304 qs24 q34 q305 (by decide +kernel) ⟨Nat.le_of_ble_eq_true rfl, Nat.le_of_ble_eq_true rfl⟩ ⟨Nat.le_refl _, Nat.le_refl _⟩ rfl rfl rfl hl.1 (Nat.le_of_ble_eq_true rfl) rfl dX1_put_34 (fun r2 ur2 H locs er2 h => ?_)
          have br2 := ldA_bd hT (pr := pr) (a := atom) (show 0 ≤ x1 by omega)
          have h : ZH D A s.heap (wM ad cI T (md, N.2.1, N.2.2.1, N.2.2.2)) H locs := h
          refine z_istore E [(0, .ref (ad 0)), (1, .int (zI atom)), (2, .int (zI level)), (3, .int (zI t)), (4, .int (zI pr)), (5, .int (zI r2))] dX1_put_37 hl (by decide) [1, 2, 3, 4, 5, 0] rfl (fun ls hl => ?_)
          refine z_iload E dX1_put_39 hl 5 rfl ?_
          refine z_if_ge E 46 dX1_put_41 (by decide) (by omega) (fun c3 => ?_) (fun c3 => ?_)
          · have c3 : (0 : Int) ≤ (r2 : Int) := c3
            refine z_aload_n E dX1_put_46 hl 0 rfl ?_
            refine gM_md E h dX1_put_47 ?_
            refine z_iload_n E dX1_put_50 hl 2 rfl ?_
            refine z_iconst E dX1_put_51 ?_
            refine z_imul E dX1_put_52 ?_
            refine z_iconst E dX1_put_53 ?_
            refine z_iadd E dX1_put_54 ?_
            refine z_iload E dX1_put_55 hl 4 rfl ?_
            refine z_iadd E dX1_put_57 ?_
            refine z_iload E dX1_put_58 hl 5 rfl ?_
            refine sM_md E h (by omega) dX1_put_60 (fun H locs h => ?_)
            have h : ZH D A s.heap (wM ad cI T (up md (((level * 3) + 3) + pr) r2, N.2.1, N.2.2.1, N.2.2.2)) H locs := h
            refine z_iinc E [(0, .ref (ad 0)), (1, .int (zI atom)), (2, .int (zI level)), (3, .int (zI t)), (4, .int (zI (pr + 1))), (5, .int (zI r2))] dX1_put_61 hl 4 rfl (by decide) [1, 2, 3, 4, 0, 5] rfl (fun ls hl => ?_)
            refine z_goto E 3 dX1_put_64 (by decide) ?_
            exact ih3 (pr + 1) (up md (((level * 3) + 3) + pr) r2) _ _ _ (by omega) (by omega) (fun j a => by rw [up_n (by omega)]; exact hkp j a) (up_bd hmb (by omega)) (fun p a b => by
              by_cases q : p = pr
              · have hs : r2 = stI T ty pr atom (dg pr v) := by unfold stI; rw [if_pos (by omega), ← hx1]; exact er2
                rw [q]; exact ⟨by rw [← hs]; omega, fun w => by rw [up_s]; exact hs⟩
              · exact ⟨(hq p a (by omega)).1, fun w => by rw [up_n (by omega)]; exact (hq p a (by omega)).2 w⟩) h (lv_sub hl [0, 1, 2, 3, 4] rfl)
          · have c3 : (r2 : Int) < (0 : Int) := c3
            refine z_iconst E dX1_put_44 ?_
            exact ret md dX1_put_45 (zI_bool (by omega)).1 (⟨by omega, ⟨fun q => by omega, fun q => by have := stp_neg (T := T) (ty := ty) (v := v) (a := atom) (pr := pr) (by omega) (by unfold stI; rw [if_pos (by omega), ← hx1, ← er2]; omega); omega⟩, fun q => by omega, hkp, hmb⟩) h
  exact loop3 10 0 N.1 _ _ _ (by omega) (by omega) (fun j a => rfl) (hN.1) (fun p a b => by omega) h (lv_sub hl [0, 1, 2, 3, 4] rfl)
set_option maxHeartbeats 4000000 in
set_option maxRecDepth 100000 in
theorem mM_whole (l : Launch) (D : va_G) (ad : Nat → Nat) (cI : ClassId) (T : TT) (N : NN) (level t : Int) (ty : Int) (v : Int) (hT : TOk T) (hN : NB N) (h3 : 0 ≤ level ∧ level ≤ 3) (ht : t = 0 ∨ t = 1) (hty : ty = 2 * t) (hv : Vok T ty v) (hE : Enc T ty N.1 level v) : MI l D [(cI, .int)] yX1_whole cX1_whole 4 .boolean 1 22 [.ref (ad 0), .int (zI level), .int (zI t)] (wM ad cI T N) (fun z (_ : Unit) => (z = 0 ∨ z = 1) ∧ (z = 1 ↔ v = lst T ty)) (fun _ => wM ad cI T N) := by
  refine MI.of RX1 (by decide) rfl (Nat.le_of_ble_eq_true rfl) [(0, .ref (ad 0)), (1, .int (zI level)), (2, .int (zI t))] rfl ?_
  intro p e s m args below meth c A Q E ret ls h hl
  refine z_iconst E dX1_whole_0 ?_
  refine z_istore_n E [(0, .ref (ad 0)), (1, .int (zI level)), (2, .int (zI t)), (3, .int (zI 0))] dX1_whole_1 hl (by decide) [1, 2, 3, 0] rfl (fun ls hl => ?_)
  have loop2 : ∀ (n2 : Nat) (pr : Int) (H : Heap) (locs : List Loc) (ls : Array Slot), (3 - pr) < (n2 : Int) → (0 ≤ pr ∧ pr ≤ 3) → (∀ p, 0 ≤ p → p < pr → (p < T.1 ∨ (p = 2 ∧ ty = 2)) → dg p v = T.2.2.1 p) → ZH D A s.heap (wM ad cI T N) H locs → lv_has ls 4 [(0, .ref (ad 0)), (1, .int (zI level)), (2, .int (zI t)), (3, .int (zI pr))] → W p l e ({ frames := 1, cells := 0, slots := 0, locals := 22 } : Room) s m args below meth c H locs 0 0 Q (F0 m 2 ls []) := by
    intro n2
    induction n2 with
    | zero =>
      intro pr H locs ls hm2 hp hq h hl
      exfalso; omega
    | succ n2 ih2 =>
      intro pr H locs ls hm2 hp hq h hl
      refine z_iload_n E dX1_whole_2 hl 3 rfl ?_
      refine z_iconst E dX1_whole_3 ?_
      refine z_icmp_ge E 43 dX1_whole_4 (by decide) (by omega) (fun c1 => ?_) (fun c1 => ?_)
      · have c1 : (3 : Int) ≤ (pr : Int) := c1
        refine z_iconst E dX1_whole_43 ?_
        exact ret () dX1_whole_44 (zI_bool (by omega)).1 (⟨by omega, ⟨fun q => v_lst hT hv (fun p a b c => hq p a (by omega) c), fun q => rfl⟩⟩) h
      · have c1 : (pr : Int) < (3 : Int) := c1
        refine z_aload_n E dX1_whole_7 hl 0 rfl ?_
        refine z_iload_n E dX1_whole_8 hl 3 rfl ?_
        refine z_iload_n E dX1_whole_9 hl 2 rfl ?_
        refine z_call (n := 2) (rest := []) E h (mM_counts l D ad cI T N pr t hT (by omega) (by omega)) q298 q300 qs23 q34 q301 (by decide +kernel) ⟨Nat.le_of_ble_eq_true rfl, Nat.le_of_ble_eq_true rfl⟩ ⟨Nat.le_refl _, Nat.le_refl _⟩ rfl rfl rfl hl.1 (Nat.le_of_ble_eq_true rfl) rfl dX1_whole_10 (fun r1 ur1 H locs er1 h => ?_)
        have h : ZH D A s.heap (wM ad cI T N) H locs := h
        refine z_if_eq E 37 dX1_whole_13 (by decide) (by omega) (fun c2 => ?_) (fun c2 => ?_)
        · have c2 : (r1 : Int) = (0 : Int) := c2
          refine z_iinc E [(0, .ref (ad 0)), (1, .int (zI level)), (2, .int (zI t)), (3, .int (zI (pr + 1)))] dX1_whole_37 hl 3 rfl (by decide) [1, 2, 3, 0] rfl (fun ls hl => ?_)
          refine z_goto E 2 dX1_whole_40 (by decide) ?_
          exact ih2 (pr + 1) _ _ _ (by omega) (by omega) (fun p a b c => by
          by_cases q : p = pr
          · exfalso; omega
          · exact hq p a (by omega) c) h (lv_sub hl [0, 1, 2, 3] rfl)
        · have c2 : (r1 : Int) ≠ (0 : Int) := c2
          refine z_aload_n E dX1_whole_16 hl 0 rfl ?_
          refine gM_md E h dX1_whole_17 ?_
          refine z_iload_n E dX1_whole_20 hl 1 rfl ?_
          refine z_iconst E dX1_whole_21 ?_
          refine z_imul E dX1_whole_22 ?_
          refine z_iload_n E dX1_whole_23 hl 3 rfl ?_
          refine z_iadd E dX1_whole_24 ?_
          refine lM_md E h (by omega) dX1_whole_25 (fun x1 ex1 => ?_)
          have ex1 : x1 = N.1 ((level * 3) + pr) := ex1
          have b1 := hN.1 ((level * 3) + pr)
          have hx1 : x1 = dg pr v := by rw [ex1]; exact hE pr (by omega) (by omega) (by omega)
          refine z_aload_n E dX1_whole_26 hl 0 rfl ?_
          refine gM_ol E h dX1_whole_27 ?_
          refine z_iload_n E dX1_whole_30 hl 3 rfl ?_
          refine lM_ol E h (by omega) dX1_whole_31 (fun x2 ex2 => ?_)
          have ex2 : x2 = T.2.2.1 pr := ex2
          have b2 := hT.2.2.1 pr
          refine z_icmp_eq E 37 dX1_whole_32 (by decide) (by omega) (fun c3 => ?_) (fun c3 => ?_)
          · have c3 : (x1 : Int) = (x2 : Int) := c3
            refine z_iinc E [(0, .ref (ad 0)), (1, .int (zI level)), (2, .int (zI t)), (3, .int (zI (pr + 1)))] dX1_whole_37 hl 3 rfl (by decide) [1, 2, 3, 0] rfl (fun ls hl => ?_)
            refine z_goto E 2 dX1_whole_40 (by decide) ?_
            exact ih2 (pr + 1) _ _ _ (by omega) (by omega) (fun p a b c => by
            by_cases q : p = pr
            · rw [q, ← hx1]; omega
            · exact hq p a (by omega) c) h (lv_sub hl [0, 1, 2, 3] rfl)
          · have c3 : (x1 : Int) ≠ (x2 : Int) := c3
            refine z_iconst E dX1_whole_35 ?_
            exact ret () dX1_whole_36 (zI_bool (by omega)).1 (⟨by omega, ⟨fun q => by omega, fun q => by have w := lst_cnt hT (ty := ty) (pr := pr) (by omega) (by omega); rw [← q, ← hx1] at w; omega⟩⟩) h
  exact loop2 10 0 _ _ _ (by omega) (by omega) (fun p a b => by omega) h (lv_sub hl [0, 1, 2, 3] rfl)
set_option maxHeartbeats 4000000 in
set_option maxRecDepth 100000 in
theorem mM_note (l : Launch) (D : va_G) (ad : Nat → Nat) (cI : ClassId) (T : TT) (N : NN) (na nb nc : Int) (hN : NB N) (h2 : (-1 ≤ na ∧ na ≤ 199) ∧ (-1 ≤ nb ∧ nb ≤ 199) ∧ (-1 ≤ nc ∧ nc ≤ 199)) : MV l D [(cI, .int)] yX1_note cX1_note 4 0 0 [.ref (ad 0), .int (zI na), .int (zI nb), .int (zI nc)] (wM ad cI T N) (fun u : FF × Int => (N.2.2.1 = 1 → u.2 = 1 ∧ u.1 = N.2.1) ∧ (N.2.2.1 = 0 → u.2 = 1 ∧ u.1 0 = na ∧ u.1 1 = nb ∧ u.1 2 = nc) ∧ (∀ j, -1 ≤ u.1 j ∧ u.1 j ≤ 199) ∧ (u.2 = 0 ∨ u.2 = 1)) (fun u => wM ad cI T (N.1, u.1, u.2, N.2.2.2)) := by
  refine MV.of RX1 (by decide) rfl (Nat.le_of_ble_eq_true rfl) [(0, .ref (ad 0)), (1, .int (zI na)), (2, .int (zI nb)), (3, .int (zI nc))] rfl ?_
  intro p e s m args below meth c A Q E ret ls h hl
  refine z_aload_n E dX1_note_0 hl 0 rfl ?_
  refine gM_fd (fd := N.2.2.1) E h dX1_note_1 ?_
  have b1 := hN.2.2
  refine z_if_ne E 33 dX1_note_4 (by decide) (by omega) (fun c1 => ?_) (fun c1 => ?_)
  · have c1 : (N.2.2.1 : Int) ≠ (0 : Int) := c1
    exact ret (N.2.1, N.2.2.1) dX1_note_33 (⟨fun q => ⟨q, rfl⟩, fun q => by omega, hN.2.1, hN.2.2⟩) h
  · have c1 : (N.2.2.1 : Int) = (0 : Int) := c1
    refine z_aload_n E dX1_note_7 hl 0 rfl ?_
    refine z_iconst E dX1_note_8 ?_
    refine pM_fd E h (by omega) dX1_note_9 (fun H locs h => ?_)
    have h : ZH D A s.heap (wM ad cI T (N.1, N.2.1, 1, N.2.2.2)) H locs := h
    refine z_aload_n E dX1_note_12 hl 0 rfl ?_
    refine gM_fs E h dX1_note_13 ?_
    refine z_iconst E dX1_note_16 ?_
    refine z_iload_n E dX1_note_17 hl 1 rfl ?_
    refine sM_fs E h (by omega) dX1_note_18 (fun H locs h => ?_)
    have h : ZH D A s.heap (wM ad cI T (N.1, up N.2.1 0 na, 1, N.2.2.2)) H locs := h
    refine z_aload_n E dX1_note_19 hl 0 rfl ?_
    refine gM_fs E h dX1_note_20 ?_
    refine z_iconst E dX1_note_23 ?_
    refine z_iload_n E dX1_note_24 hl 2 rfl ?_
    refine sM_fs E h (by omega) dX1_note_25 (fun H locs h => ?_)
    have h : ZH D A s.heap (wM ad cI T (N.1, up (up N.2.1 0 na) 1 nb, 1, N.2.2.2)) H locs := h
    refine z_aload_n E dX1_note_26 hl 0 rfl ?_
    refine gM_fs E h dX1_note_27 ?_
    refine z_iconst E dX1_note_30 ?_
    refine z_iload_n E dX1_note_31 hl 3 rfl ?_
    refine sM_fs E h (by omega) dX1_note_32 (fun H locs h => ?_)
    have h : ZH D A s.heap (wM ad cI T (N.1, up (up (up N.2.1 0 na) 1 nb) 2 nc, 1, N.2.2.2)) H locs := h
    exact ret (up (up (up N.2.1 0 na) 1 nb) 2 nc, 1) dX1_note_33 (⟨fun q => by omega, fun q => ⟨rfl, by show up (up (up N.2.1 0 na) 1 nb) 2 nc 0 = na; rw [up_n (by omega), up_n (by omega), up_s], by show up (up (up N.2.1 0 na) 1 nb) 2 nc 1 = nb; rw [up_n (by omega), up_s], by show up (up (up N.2.1 0 na) 1 nb) 2 nc 2 = nc; rw [up_s]⟩, up_bd (up_bd (up_bd hN.2.1 h2.1) h2.2.1) h2.2.2, Or.inr rfl⟩) h
end
section
theorem wz_vk {T : TT} {ty k left v : Int} (hk : k = left + 1) (hl : 0 ≤ left) (hv : Vok T ty v) : wz T ty k v = sumZ (wt T ty left v) 200 := by
  rw [hk]; exact wz_v hl hv
theorem Sc_fin {T : TT} {ty k left v c : Int} {G : FF → Int → Prop} {fs0 fs : FF} {fd0 fd : Int} (hk : k = left + 1) (hl : 0 ≤ left) (hv : Vok T ty v) (hc : c = 200) (h : Sc (gP T ty left v) G fs0 fd0 fs fd c) : NP (wz T ty k v) (fun f => G f (fa T ty left v)) fs0 fd0 fs fd := by
  rw [hk]
  rw [hc] at h
  exact Sc_end hl hv h
theorem dg_0 (p : Int) : dg p 0 = 0 := by
  unfold dg
  repeat' split
  all_goals rfl
theorem sumA_const {f : FF} {x : Int} : ∀ n : Nat, (∀ a : Int, 0 ≤ a → f a = x) → sumA f n = n * x
  | 0, _ => by simp [sumA]
  | n + 1, h => by
    simp only [sumA]
    rw [sumA_const n h, h n (by omega), Int.natCast_add, Int.add_mul]
    simp
theorem stp_free {T : TT} (h : T.1 = 0) (a : Int) : stp T 0 0 a = 0 := by
  have k : ∀ pr f, 0 ≤ pr → stI T 0 pr a f = f := by
    intro pr f h1
    unfold stI
    rw [if_neg (by omega)]
  unfold stp
  rw [k 0 _ (by omega), k 1 _ (by omega), k 2 _ (by omega)]
  rfl
theorem wz_free {T : TT} (hT : TOk T) (h : T.1 = 0) : wz T 0 0 0 = 1 ∧ wz T 0 1 0 = 200 ∧ wz T 0 2 0 = 40000 ∧ wz T 0 3 0 = 8000000 := by
  have h0 : wz T 0 0 0 = 1 := by
    rw [wz_0, if_pos]
    unfold lst
    rw [if_neg (by omega), if_neg (by omega), if_neg (by omega)]
    rfl
  have st : ∀ k, 0 ≤ k → wz T 0 (k + 1) 0 = 200 * wz T 0 k 0 := by
    intro k hk
    rw [wz_v hk (Vok_0 hT 0)]
    show sumA (wt T 0 k 0) 200 = _
    rw [sumA_const (x := wz T 0 k 0) 200 (fun a _ => by unfold wt; rw [stp_free h, if_pos (Int.le_refl _)])]
    rfl
  have h1 := st 0 (by omega)
  have h2 := st 1 (by omega)
  have h3 := st 2 (by omega)
  rw [show (0 : Int) + 1 = 1 from rfl] at h1
  rw [show (1 : Int) + 1 = 2 from rfl] at h2
  rw [show (2 : Int) + 1 = 3 from rfl] at h3
  omega
theorem fa_free {T : TT} (hT : TOk T) (h : T.1 = 0) {left : Int} (hl : 0 ≤ left ∧ left ≤ 3) : fa T 0 left 0 = 0 := by
  have hw := wz_free hT h
  refine (fa_eq (by omega) (fun c a b => by omega) (Or.inr ⟨?_, ?_⟩)).symm
  · rw [stp_free h]; omega
  · rw [stp_free h]
    have : left = 0 ∨ left = 1 ∨ left = 2 ∨ left = 3 := by omega
    rcases this with e | e | e | e <;> subst e <;> omega
theorem ndZ_free {T : TT} (h : T.1 = 0) (k : Int) : ∀ n : Nat, ndZ T 0 k n = 0
  | 0 => rfl
  | n + 1 => by
    rw [show ((n + 1 : Nat) : Int) = (n : Int) + 1 from rfl, ndZ_s _ _ _ (by omega), ndZ_free h k n, stp_free h]
theorem pz_free {T : TT} (hT : TOk T) (h : T.1 = 0) {k i : Int} (hk : k ≤ 3) (hi : 0 ≤ i ∧ i < k) : pz T 0 k i = 0 := by
  have h1 := ndZ_free h k i.toNat
  rw [Int.toNat_of_nonneg hi.1] at h1
  unfold pz
  rw [h1]
  exact fa_free hT h (by omega)
theorem pz_0 (T : TT) (ty k : Int) : pz T ty k 0 = fa T ty (k - 1) 0 := by
  unfold pz
  rw [Int.sub_zero, ndZ_0]
theorem ndZ_1 (T : TT) (ty k : Int) : ndZ T ty k 1 = stp T ty 0 (fa T ty (k - 1) 0) := by
  have h := ndZ_s T ty k (show (0 : Int) ≤ 0 by omega)
  rw [ndZ_0, Int.sub_zero] at h
  exact h
theorem pz_1 (T : TT) (ty k : Int) : pz T ty k 1 = fa T ty (k - 2) (stp T ty 0 (fa T ty (k - 1) 0)) := by
  unfold pz
  rw [ndZ_1, show k - 1 - 1 = k - 2 by omega]
theorem pz_2 (T : TT) (ty k : Int) : pz T ty k 2 = fa T ty (k - 3) (stp T ty (stp T ty 0 (fa T ty (k - 1) 0)) (fa T ty (k - 2) (stp T ty 0 (fa T ty (k - 1) 0)))) := by
  have h := ndZ_s T ty k (show (0 : Int) ≤ 1 by omega)
  rw [ndZ_1, show k - 1 - 1 = k - 2 by omega] at h
  unfold pz
  rw [show k - 2 - 1 = k - 3 by omega]
  exact congrArg _ h
end
section
set_option maxHeartbeats 4000000 in
set_option maxRecDepth 100000 in
theorem mM_thirds (l : Launch) (D : va_G) (ad : Nat → Nat) (cI : ClassId) (T : TT) (N : NN) (pa pb t : Int) (ty : Int) (v : Int) (hT : TOk T) (hN : NB N) (h2 : (0 ≤ pa ∧ pa ≤ 199) ∧ (0 ≤ pb ∧ pb ≤ 199)) (ht : t = 0 ∨ t = 1) (hty : ty = 2 * t) (hv : Vok T ty v) (hE : Enc T ty N.1 2 v) : MI l D [(cI, .int)] yX1_thirds cX1_thirds 6 .int 4 97 [.ref (ad 0), .int (zI pa), .int (zI pb), .int (zI t)] (wM ad cI T N) (fun z (u : FF × FF × Int) => z = wz T ty 1 v ∧ NP (wz T ty 1 v) (fun f => f 0 = pa ∧ f 1 = pb ∧ f 2 = fa T ty 0 v) N.2.1 N.2.2.1 u.2.1 u.2.2 ∧ (∀ j, j < 9 → u.1 j = N.1 j) ∧ (∀ j, 0 ≤ u.1 j ∧ u.1 j ≤ 6) ∧ (∀ j, -1 ≤ u.2.1 j ∧ u.2.1 j ≤ 199) ∧ (u.2.2 = 0 ∨ u.2.2 = 1)) (fun u => wM ad cI T (u.1, u.2.1, u.2.2, N.2.2.2)) := by
  refine MI.of RX1 (by decide) rfl (Nat.le_of_ble_eq_true rfl) [(0, .ref (ad 0)), (1, .int (zI pa)), (2, .int (zI pb)), (3, .int (zI t))] rfl ?_
  intro p e s m args below meth c A Q E ret ls h hl
  refine z_iconst E dX1_thirds_0 ?_
  refine z_istore E [(0, .ref (ad 0)), (1, .int (zI pa)), (2, .int (zI pb)), (3, .int (zI t)), (4, .int (zI 0))] dX1_thirds_1 hl (by decide) [1, 2, 3, 4, 0] rfl (fun ls hl => ?_)
  refine z_iconst E dX1_thirds_3 ?_
  refine z_istore E [(0, .ref (ad 0)), (1, .int (zI pa)), (2, .int (zI pb)), (3, .int (zI t)), (4, .int (zI 0)), (5, .int (zI 0))] dX1_thirds_4 hl (by decide) [1, 2, 3, 4, 5, 0] rfl (fun ls hl => ?_)
  have loop6 : ∀ (n6 : Nat) (ca : Int) (nn : Int) (md : FF) (fs : FF) (fd : Int) (H : Heap) (locs : List Loc) (ls : Array Slot), (200 - ca) < (n6 : Int) → (0 ≤ ca ∧ ca ≤ 200) → (nn = sumZ (wt T ty 0 v) ca) → (Sc (gP T ty 0 v) (fun f x => f 0 = pa ∧ f 1 = pb ∧ f 2 = x) N.2.1 N.2.2.1 fs fd ca) → (∀ j, j < 9 → md j = N.1 j) → (∀ j, 0 ≤ md j ∧ md j ≤ 6) → (∀ j, -1 ≤ fs j ∧ fs j ≤ 199) → (fd = 0 ∨ fd = 1) → ZH D A s.heap (wM ad cI T (md, fs, fd, N.2.2.2)) H locs → lv_has ls 6 [(0, .ref (ad 0)), (1, .int (zI pa)), (2, .int (zI pb)), (3, .int (zI t)), (4, .int (zI nn)), (5, .int (zI ca))] → W p l e ({ frames := 4, cells := 0, slots := 0, locals := 97 } : Room) s m args below meth c H locs 0 0 Q (F0 m 6 ls []) := by
    intro n6
    induction n6 with
    | zero =>
      intro ca nn md fs fd H locs ls hm6 hc hs hsc hkp hmb hfb hdb h hl
      exfalso; omega
    | succ n6 ih6 =>
      intro ca nn md fs fd H locs ls hm6 hc hs hsc hkp hmb hfb hdb h hl
      refine z_iload E dX1_thirds_6 hl 5 rfl ?_
      refine z_sipush E dX1_thirds_8 (by decide +kernel) ?_
      refine z_icmp_ge E 51 dX1_thirds_11 (by decide) (by omega) (fun c1 => ?_) (fun c1 => ?_)
      · have c1 : (200 : Int) ≤ (ca : Int) := c1
        refine z_iload E dX1_thirds_51 hl 4 rfl ?_
        exact ret (md, fs, fd) dX1_thirds_53 rfl (⟨by rw [wz_vk (k := 1) (left := 0) rfl (by omega) hv, hs, show ca = 200 by omega], Sc_fin (left := 0) rfl (by omega) hv (show ca = 200 by omega) hsc, hkp, hmb, hfb, hdb⟩) h
      · have c1 : (ca : Int) < (200 : Int) := c1
        refine z_aload_n E dX1_thirds_14 hl 0 rfl ?_
        refine z_iload E dX1_thirds_15 hl 5 rfl ?_
        refine z_iconst E dX1_thirds_17 ?_
        refine z_iload_n E dX1_thirds_18 hl 3 rfl ?_
        refine z_call (n := 3) (rest := []) E h (mM_put l D ad cI T (md, fs, fd, N.2.2.2) ca 2 t ty v hT (⟨hmb, hfb, hdb⟩) (by omega) (by omega) (by omega) (by omega) hv (fun p a b c => (hkp (2 * 3 + p) (by omega)).trans (hE p a b c))) q294 q296 qs22 q34 q297 (by decide +kernel) ⟨Nat.le_of_ble_eq_true rfl, Nat.le_of_ble_eq_true rfl⟩ ⟨Nat.le_refl _, Nat.le_refl _⟩ rfl rfl rfl hl.1 (Nat.le_of_ble_eq_true rfl) rfl dX1_thirds_19 (fun r1 ur1 H locs er1 h => ?_)
        obtain ⟨hzr1, hsr1, hnr1, hkr1, hbr1⟩ := er1
        have h : ZH D A s.heap (wM ad cI T (ur1, fs, fd, N.2.2.2)) H locs := h
        refine z_if_eq E 45 dX1_thirds_22 (by decide) (by omega) (fun c2 => ?_) (fun c2 => ?_)
        · have c2 : (r1 : Int) = (0 : Int) := c2
          refine z_iinc E [(0, .ref (ad 0)), (1, .int (zI pa)), (2, .int (zI pb)), (3, .int (zI t)), (4, .int (zI nn)), (5, .int (zI (ca + 1)))] dX1_thirds_45 hl 5 rfl (by decide) [1, 2, 3, 4, 5, 0] rfl (fun ls hl => ?_)
          refine z_goto E 6 dX1_thirds_48 (by decide) ?_
          exact ih6 (ca + 1) nn ur1 fs fd _ _ _ (by omega) (by omega) (by rw [sumZ_s _ (by omega), ← hs]; unfold wt; rw [if_neg (fun q => by have := hsr1.mpr q; omega)]; omega) (Sc_no hsc (fun q => by have := hsr1.mpr q.1; omega)) (fun j a => (hkr1 j (by omega)).trans (hkp j a)) (hbr1) (hfb) (hdb) h (lv_sub hl [0, 1, 2, 3, 4, 5] rfl)
        · have c2 : (r1 : Int) ≠ (0 : Int) := c2
          refine z_aload_n E dX1_thirds_25 hl 0 rfl ?_
          refine z_iconst E dX1_thirds_26 ?_
          refine z_iload_n E dX1_thirds_27 hl 3 rfl ?_
          refine z_call (n := 2) (rest := []) E h (mM_whole l D ad cI T (ur1, fs, fd, N.2.2.2) 3 t ty (stp T ty v ca) hT (⟨hbr1, hfb, hdb⟩) (by omega) (by omega) (by omega) ((stp_dig hT hv (hsr1.mp (by omega))).2.2) (hnr1 (by omega))) q326 q328 qs30 q34 q329 (by decide +kernel) ⟨Nat.le_of_ble_eq_true rfl, Nat.le_of_ble_eq_true rfl⟩ ⟨Nat.le_refl _, Nat.le_refl _⟩ rfl rfl rfl hl.1 (Nat.le_of_ble_eq_true rfl) rfl dX1_thirds_28 (fun r2 ur2 H locs er2 h => ?_)
          have h : ZH D A s.heap (wM ad cI T (ur1, fs, fd, N.2.2.2)) H locs := h
          refine z_if_eq E 45 dX1_thirds_31 (by decide) (by omega) (fun c3 => ?_) (fun c3 => ?_)
          · have c3 : (r2 : Int) = (0 : Int) := c3
            refine z_iinc E [(0, .ref (ad 0)), (1, .int (zI pa)), (2, .int (zI pb)), (3, .int (zI t)), (4, .int (zI nn)), (5, .int (zI (ca + 1)))] dX1_thirds_45 hl 5 rfl (by decide) [1, 2, 3, 4, 5, 0] rfl (fun ls hl => ?_)
            refine z_goto E 6 dX1_thirds_48 (by decide) ?_
            exact ih6 (ca + 1) nn ur1 fs fd _ _ _ (by omega) (by omega) (by rw [sumZ_s _ (by omega), ← hs]; unfold wt; rw [if_pos (hsr1.mp (by omega)), wz_0, if_neg (fun q => by have := er2.2.mpr q; omega)]; omega) (Sc_no hsc (fun q => by have w := q.2; rw [wz_0, if_neg (fun q => by have := er2.2.mpr q; omega)] at w; omega)) (fun j a => (hkr1 j (by omega)).trans (hkp j a)) (hbr1) (hfb) (hdb) h (lv_sub hl [0, 1, 2, 3, 4, 5] rfl)
          · have c3 : (r2 : Int) ≠ (0 : Int) := c3
            refine z_aload_n E dX1_thirds_34 hl 0 rfl ?_
            refine z_iload_n E dX1_thirds_35 hl 1 rfl ?_
            refine z_iload_n E dX1_thirds_36 hl 2 rfl ?_
            refine z_iload E dX1_thirds_37 hl 5 rfl ?_
            refine z_callv (n := 3) (rest := []) E h (mM_note l D ad cI T (ur1, fs, fd, N.2.2.2) pa pb ca (⟨hbr1, hfb, hdb⟩) (by omega)) q288 q290 qs21 q34 q291 (by decide +kernel) ⟨Nat.le_of_ble_eq_true rfl, Nat.le_of_ble_eq_true rfl⟩ ⟨Nat.le_refl _, Nat.le_refl _⟩ rfl rfl rfl hl.1 (Nat.le_of_ble_eq_true rfl) rfl dX1_thirds_39 (fun ur3 H locs er3 h => ?_)
            obtain ⟨h1r3, h0r3, hfr3, hdr3⟩ := er3
            have h : ZH D A s.heap (wM ad cI T (ur1, ur3.1, ur3.2, N.2.2.2)) H locs := h
            refine z_iinc E [(0, .ref (ad 0)), (1, .int (zI pa)), (2, .int (zI pb)), (3, .int (zI t)), (4, .int (zI (nn + 1))), (5, .int (zI ca))] dX1_thirds_42 hl 4 rfl (by decide) [1, 2, 3, 4, 0, 5] rfl (fun ls hl => ?_)
            refine z_iinc E [(0, .ref (ad 0)), (1, .int (zI pa)), (2, .int (zI pb)), (3, .int (zI t)), (4, .int (zI (nn + 1))), (5, .int (zI (ca + 1)))] dX1_thirds_45 hl 5 rfl (by decide) [1, 2, 3, 4, 5, 0] rfl (fun ls hl => ?_)
            refine z_goto E 6 dX1_thirds_48 (by decide) ?_
            exact ih6 (ca + 1) (nn + 1) ur1 ur3.1 ur3.2 _ _ _ (by omega) (by omega) (by rw [sumZ_s _ (by omega), ← hs]; unfold wt; rw [if_pos (hsr1.mp (by omega)), wz_0, if_pos (er2.2.mp (by omega))]) (Sc_yes (by omega) hsc ⟨hsr1.mp (by omega), by rw [wz_0, if_pos (er2.2.mp (by omega))]; omega⟩ h1r3 (fun q => ⟨(h0r3 q).1, (h0r3 q).2⟩)) (fun j a => (hkr1 j (by omega)).trans (hkp j a)) (hbr1) (hfr3) (hdr3) h (lv_sub hl [0, 1, 2, 3, 4, 5] rfl)
  exact loop6 1000 0 0 N.1 N.2.1 N.2.2.1 _ _ _ (by omega) (by omega) ((sumZ_0 _).symm) (Sc_0) (fun j a => rfl) (hN.1) (hN.2.1) (hN.2.2) h (lv_sub hl [0, 1, 2, 3, 4, 5] rfl)
set_option maxHeartbeats 4000000 in
set_option maxRecDepth 100000 in
theorem mM_seconds (l : Launch) (D : va_G) (ad : Nat → Nat) (cI : ClassId) (T : TT) (N : NN) (pa cn t : Int) (ty : Int) (v : Int) (hT : TOk T) (hN : NB N) (h2 : (0 ≤ pa ∧ pa ≤ 199) ∧ (cn = 2 ∨ cn = 3)) (ht : t = 0 ∨ t = 1) (hty : ty = 2 * t) (hv : Vok T ty v) (hE : Enc T ty N.1 1 v) : MI l D [(cI, .int)] yX1_seconds cX1_seconds 7 .int 5 122 [.ref (ad 0), .int (zI pa), .int (zI cn), .int (zI t)] (wM ad cI T N) (fun z (u : FF × FF × Int) => z = wz T ty (cn - 1) v ∧ NP (wz T ty (cn - 1) v) (fun f => f 0 = pa ∧ f 1 = fa T ty (cn - 2) v ∧ (cn = 3 → f 2 = fa T ty 0 (stp T ty v (fa T ty (cn - 2) v)))) N.2.1 N.2.2.1 u.2.1 u.2.2 ∧ (∀ j, j < 6 → u.1 j = N.1 j) ∧ (∀ j, 0 ≤ u.1 j ∧ u.1 j ≤ 6) ∧ (∀ j, -1 ≤ u.2.1 j ∧ u.2.1 j ≤ 199) ∧ (u.2.2 = 0 ∨ u.2.2 = 1)) (fun u => wM ad cI T (u.1, u.2.1, u.2.2, N.2.2.2)) := by
  refine MI.of RX1 (by decide) rfl (Nat.le_of_ble_eq_true rfl) [(0, .ref (ad 0)), (1, .int (zI pa)), (2, .int (zI cn)), (3, .int (zI t))] rfl ?_
  intro p e s m args below meth c A Q E ret ls h hl
  refine z_iconst E dX1_seconds_0 ?_
  refine z_istore E [(0, .ref (ad 0)), (1, .int (zI pa)), (2, .int (zI cn)), (3, .int (zI t)), (4, .int (zI 0))] dX1_seconds_1 hl (by decide) [1, 2, 3, 4, 0] rfl (fun ls hl => ?_)
  refine z_iconst E dX1_seconds_3 ?_
  refine z_istore E [(0, .ref (ad 0)), (1, .int (zI pa)), (2, .int (zI cn)), (3, .int (zI t)), (4, .int (zI 0)), (5, .int (zI 0))] dX1_seconds_4 hl (by decide) [1, 2, 3, 4, 5, 0] rfl (fun ls hl => ?_)
  have loop6 : ∀ (n6 : Nat) (ba : Int) (nn : Int) (md : FF) (fs : FF) (fd : Int) (H : Heap) (locs : List Loc) (ls : Array Slot), (200 - ba) < (n6 : Int) → (0 ≤ ba ∧ ba ≤ 200) → (nn = sumZ (wt T ty (cn - 2) v) ba) → (Sc (gP T ty (cn - 2) v) (fun f x => f 0 = pa ∧ f 1 = x ∧ (cn = 3 → f 2 = fa T ty 0 (stp T ty v x))) N.2.1 N.2.2.1 fs fd ba) → (∀ j, j < 6 → md j = N.1 j) → (∀ j, 0 ≤ md j ∧ md j ≤ 6) → (∀ j, -1 ≤ fs j ∧ fs j ≤ 199) → (fd = 0 ∨ fd = 1) → ZH D A s.heap (wM ad cI T (md, fs, fd, N.2.2.2)) H locs → lv_has ls 7 [(0, .ref (ad 0)), (1, .int (zI pa)), (2, .int (zI cn)), (3, .int (zI t)), (4, .int (zI nn)), (5, .int (zI ba))] → W p l e ({ frames := 5, cells := 0, slots := 0, locals := 122 } : Room) s m args below meth c H locs 0 0 Q (F0 m 6 ls []) := by
    intro n6
    induction n6 with
    | zero =>
      intro ba nn md fs fd H locs ls hm6 hc hs hsc hkp hmb hfb hdb h hl
      exfalso; omega
    | succ n6 ih6 =>
      intro ba nn md fs fd H locs ls hm6 hc hs hsc hkp hmb hfb hdb h hl
      refine z_iload E dX1_seconds_6 hl 5 rfl ?_
      refine z_sipush E dX1_seconds_8 (by decide +kernel) ?_
      refine z_icmp_ge E 76 dX1_seconds_11 (by decide) (by omega) (fun c1 => ?_) (fun c1 => ?_)
      · have c1 : (200 : Int) ≤ (ba : Int) := c1
        refine z_iload E dX1_seconds_76 hl 4 rfl ?_
        exact ret (md, fs, fd) dX1_seconds_78 rfl (⟨by rw [wz_vk (left := cn - 2) (by omega) (by omega) hv, hs, show ba = 200 by omega], Sc_fin (left := cn - 2) (by omega) (by omega) hv (show ba = 200 by omega) hsc, hkp, hmb, hfb, hdb⟩) h
      · have c1 : (ba : Int) < (200 : Int) := c1
        refine z_aload_n E dX1_seconds_14 hl 0 rfl ?_
        refine z_iload E dX1_seconds_15 hl 5 rfl ?_
        refine z_iconst E dX1_seconds_17 ?_
        refine z_iload_n E dX1_seconds_18 hl 3 rfl ?_
        refine z_call (n := 3) (rest := []) E h (mM_put l D ad cI T (md, fs, fd, N.2.2.2) ba 1 t ty v hT (⟨hmb, hfb, hdb⟩) (by omega) (by omega) (by omega) (by omega) hv (fun p a b c => (hkp (1 * 3 + p) (by omega)).trans (hE p a b c))) q294 q296 qs22 q34 q297 (by decide +kernel) ⟨Nat.le_of_ble_eq_true rfl, Nat.le_of_ble_eq_true rfl⟩ ⟨Nat.le_refl _, Nat.le_refl _⟩ rfl rfl rfl hl.1 (Nat.le_of_ble_eq_true rfl) rfl dX1_seconds_19 (fun r1 ur1 H locs er1 h => ?_)
        obtain ⟨hzr1, hsr1, hnr1, hkr1, hbr1⟩ := er1
        have h : ZH D A s.heap (wM ad cI T (ur1, fs, fd, N.2.2.2)) H locs := h
        refine z_if_eq E 70 dX1_seconds_22 (by decide) (by omega) (fun c2 => ?_) (fun c2 => ?_)
        · have c2 : (r1 : Int) = (0 : Int) := c2
          refine z_iinc E [(0, .ref (ad 0)), (1, .int (zI pa)), (2, .int (zI cn)), (3, .int (zI t)), (4, .int (zI nn)), (5, .int (zI (ba + 1)))] dX1_seconds_70 hl 5 rfl (by decide) [1, 2, 3, 4, 5, 0] rfl (fun ls hl => ?_)
          refine z_goto E 6 dX1_seconds_73 (by decide) ?_
          exact ih6 (ba + 1) nn ur1 fs fd _ _ _ (by omega) (by omega) (by rw [sumZ_s _ (by omega), ← hs]; unfold wt; rw [if_neg (fun q => by have := hsr1.mpr q; omega)]; omega) (Sc_no hsc (fun q => by have := hsr1.mpr q.1; omega)) (fun j a => (hkr1 j (by omega)).trans (hkp j a)) (hbr1) (hfb) (hdb) h (lv_sub hl [0, 1, 2, 3, 4, 5] rfl)
        · have c2 : (r1 : Int) ≠ (0 : Int) := c2
          refine z_iload_n E dX1_seconds_25 hl 2 rfl ?_
          refine z_iconst E dX1_seconds_26 ?_
          refine z_icmp_ne E 50 dX1_seconds_27 (by decide) (by omega) (fun c3 => ?_) (fun c3 => ?_)
          · have c3 : (cn : Int) ≠ (3 : Int) := c3
            refine z_aload_n E dX1_seconds_50 hl 0 rfl ?_
            refine z_iconst E dX1_seconds_51 ?_
            refine z_iload_n E dX1_seconds_52 hl 3 rfl ?_
            refine z_call (n := 2) (rest := []) E h (mM_whole l D ad cI T (ur1, fs, fd, N.2.2.2) 2 t ty (stp T ty v ba) hT (⟨hbr1, hfb, hdb⟩) (by omega) (by omega) (by omega) ((stp_dig hT hv (hsr1.mp (by omega))).2.2) (hnr1 (by omega))) q326 q328 qs30 q34 q329 (by decide +kernel) ⟨Nat.le_of_ble_eq_true rfl, Nat.le_of_ble_eq_true rfl⟩ ⟨Nat.le_refl _, Nat.le_refl _⟩ rfl rfl rfl hl.1 (Nat.le_of_ble_eq_true rfl) rfl dX1_seconds_53 (fun r2 ur2 H locs er2 h => ?_)
            have h : ZH D A s.heap (wM ad cI T (ur1, fs, fd, N.2.2.2)) H locs := h
            refine z_if_eq E 70 dX1_seconds_56 (by decide) (by omega) (fun c4 => ?_) (fun c4 => ?_)
            · have c4 : (r2 : Int) = (0 : Int) := c4
              refine z_iinc E [(0, .ref (ad 0)), (1, .int (zI pa)), (2, .int (zI cn)), (3, .int (zI t)), (4, .int (zI nn)), (5, .int (zI (ba + 1)))] dX1_seconds_70 hl 5 rfl (by decide) [1, 2, 3, 4, 5, 0] rfl (fun ls hl => ?_)
              refine z_goto E 6 dX1_seconds_73 (by decide) ?_
              exact ih6 (ba + 1) nn ur1 fs fd _ _ _ (by omega) (by omega) (by rw [sumZ_s _ (by omega), ← hs]; unfold wt; rw [if_pos (hsr1.mp (by omega)), show cn - 2 = 0 by omega, wz_0, if_neg (fun q => by have := er2.2.mpr q; omega)]; omega) (Sc_no hsc (fun q => by have w := q.2; rw [show cn - 2 = 0 by omega, wz_0, if_neg (fun q => by have := er2.2.mpr q; omega)] at w; omega)) (fun j a => (hkr1 j (by omega)).trans (hkp j a)) (hbr1) (hfb) (hdb) h (lv_sub hl [0, 1, 2, 3, 4, 5] rfl)
            · have c4 : (r2 : Int) ≠ (0 : Int) := c4
              refine z_aload_n E dX1_seconds_59 hl 0 rfl ?_
              refine z_iload_n E dX1_seconds_60 hl 1 rfl ?_
              refine z_iload E dX1_seconds_61 hl 5 rfl ?_
              refine z_iconst E dX1_seconds_63 ?_
              refine z_callv (n := 3) (rest := []) E h (mM_note l D ad cI T (ur1, fs, fd, N.2.2.2) pa ba (-1) (⟨hbr1, hfb, hdb⟩) (by omega)) q288 q290 qs21 q34 q291 (by decide +kernel) ⟨Nat.le_of_ble_eq_true rfl, Nat.le_of_ble_eq_true rfl⟩ ⟨Nat.le_refl _, Nat.le_refl _⟩ rfl rfl rfl hl.1 (Nat.le_of_ble_eq_true rfl) rfl dX1_seconds_64 (fun ur3 H locs er3 h => ?_)
              obtain ⟨h1r3, h0r3, hfr3, hdr3⟩ := er3
              have h : ZH D A s.heap (wM ad cI T (ur1, ur3.1, ur3.2, N.2.2.2)) H locs := h
              refine z_iinc E [(0, .ref (ad 0)), (1, .int (zI pa)), (2, .int (zI cn)), (3, .int (zI t)), (4, .int (zI (nn + 1))), (5, .int (zI ba))] dX1_seconds_67 hl 4 rfl (by decide) [1, 2, 3, 4, 0, 5] rfl (fun ls hl => ?_)
              refine z_iinc E [(0, .ref (ad 0)), (1, .int (zI pa)), (2, .int (zI cn)), (3, .int (zI t)), (4, .int (zI (nn + 1))), (5, .int (zI (ba + 1)))] dX1_seconds_70 hl 5 rfl (by decide) [1, 2, 3, 4, 5, 0] rfl (fun ls hl => ?_)
              refine z_goto E 6 dX1_seconds_73 (by decide) ?_
              exact ih6 (ba + 1) (nn + 1) ur1 ur3.1 ur3.2 _ _ _ (by omega) (by omega) (by rw [sumZ_s _ (by omega), ← hs]; unfold wt; rw [if_pos (hsr1.mp (by omega)), show cn - 2 = 0 by omega, wz_0, if_pos (er2.2.mp (by omega))]) (Sc_yes (by omega) hsc ⟨hsr1.mp (by omega), by rw [show cn - 2 = 0 by omega, wz_0, if_pos (er2.2.mp (by omega))]; omega⟩ h1r3 (fun q => ⟨(h0r3 q).1, (h0r3 q).2.1, (h0r3 q).2.2.1, fun w => by omega⟩)) (fun j a => (hkr1 j (by omega)).trans (hkp j a)) (hbr1) (hfr3) (hdr3) h (lv_sub hl [0, 1, 2, 3, 4, 5] rfl)
          · have c3 : (cn : Int) = (3 : Int) := c3
            refine z_aload_n E dX1_seconds_30 hl 0 rfl ?_
            refine z_iload_n E dX1_seconds_31 hl 1 rfl ?_
            refine z_iload E dX1_seconds_32 hl 5 rfl ?_
            refine z_iload_n E dX1_seconds_34 hl 3 rfl ?_
            refine z_call (n := 3) (rest := []) E h (mM_thirds l D ad cI T (ur1, fs, fd, N.2.2.2) pa ba t ty (stp T ty v ba) hT (⟨hbr1, hfb, hdb⟩) (by omega) (by omega) (by omega) ((stp_dig hT hv (hsr1.mp (by omega))).2.2) (hnr1 (by omega))) q322 q324 qs29 q34 q325 (by decide +kernel) ⟨Nat.le_of_ble_eq_true rfl, Nat.le_of_ble_eq_true rfl⟩ ⟨Nat.le_refl _, Nat.le_refl _⟩ rfl rfl rfl hl.1 (Nat.le_of_ble_eq_true rfl) rfl dX1_seconds_35 (fun r2 ur2 H locs er2 h => ?_)
            obtain ⟨mr2, fr2, dr2⟩ := ur2
            dsimp only at er2
            obtain ⟨hzr2, hnpr2, hkr2, hbr2, hfr2, hdr2⟩ := er2
            have h : ZH D A s.heap (wM ad cI T (mr2, fr2, dr2, N.2.2.2)) H locs := h
            refine z_istore E [(0, .ref (ad 0)), (1, .int (zI pa)), (2, .int (zI cn)), (3, .int (zI t)), (4, .int (zI nn)), (5, .int (zI ba)), (6, .int (zI r2))] dX1_seconds_38 hl (by decide) [1, 2, 3, 4, 5, 6, 0] rfl (fun ls hl => ?_)
            refine z_iload E dX1_seconds_40 hl 4 rfl ?_
            refine z_iload E dX1_seconds_42 hl 6 rfl ?_
            refine z_iadd E dX1_seconds_44 ?_
            refine z_istore E [(0, .ref (ad 0)), (1, .int (zI pa)), (2, .int (zI cn)), (3, .int (zI t)), (4, .int (zI (nn + r2))), (5, .int (zI ba)), (6, .int (zI r2))] dX1_seconds_45 hl (by decide) [1, 2, 3, 4, 0, 5, 6] rfl (fun ls hl => ?_)
            refine z_goto E 70 dX1_seconds_47 (by decide) ?_
            refine z_iinc E [(0, .ref (ad 0)), (1, .int (zI pa)), (2, .int (zI cn)), (3, .int (zI t)), (4, .int (zI (nn + r2))), (5, .int (zI (ba + 1))), (6, .int (zI r2))] dX1_seconds_70 hl 5 rfl (by decide) [1, 2, 3, 4, 5, 0, 6] rfl (fun ls hl => ?_)
            refine z_goto E 6 dX1_seconds_73 (by decide) ?_
            exact ih6 (ba + 1) (nn + r2) mr2 fr2 dr2 _ _ _ (by omega) (by omega) (by rw [sumZ_s _ (by omega), ← hs]; unfold wt; rw [if_pos (hsr1.mp (by omega)), show cn - 2 = 1 by omega, ← hzr2]) (by
              by_cases w : 0 < wz T ty 1 (stp T ty v ba)
              · exact Sc_yes (by omega) hsc ⟨hsr1.mp (by omega), by rw [show cn - 2 = 1 by omega]; exact w⟩ hnpr2.1 (fun q => ⟨((hnpr2.2 q).2 w).1, ((hnpr2.2 q).2 w).2.1, ((hnpr2.2 q).2 w).2.2.1, fun _ => ((hnpr2.2 q).2 w).2.2.2⟩)
              · exact Sc_non hsc (fun q => w (by have z := q.2; rw [show cn - 2 = 1 by omega] at z; exact z)) hnpr2.1 (fun q => (hnpr2.2 q).1 w)) (fun j a => (hkr2 j (by omega)).trans ((hkr1 j (by omega)).trans (hkp j a))) (hbr2) (hfr2) (hdr2) h (lv_sub hl [0, 1, 2, 3, 4, 5] rfl)
  exact loop6 1000 0 0 N.1 N.2.1 N.2.2.1 _ _ _ (by omega) (by omega) ((sumZ_0 _).symm) (Sc_0) (fun j a => rfl) (hN.1) (hN.2.1) (hN.2.2) h (lv_sub hl [0, 1, 2, 3, 4, 5] rfl)
set_option maxHeartbeats 4000000 in
set_option maxRecDepth 100000 in
theorem mM_search (l : Launch) (D : va_G) (ad : Nat → Nat) (cI : ClassId) (T : TT) (N : NN) (cn t : Int) (ty : Int) (hT : TOk T) (hN : NB N) (h2 : 1 ≤ cn ∧ cn ≤ 3) (ht : t = 0 ∨ t = 1) (hty : ty = 2 * t) : MI l D [(cI, .int)] yX1_search cX1_search 6 .int 6 148 [.ref (ad 0), .int (zI cn), .int (zI t)] (wM ad cI T N) (fun z (u : FF × FF × Int) => z = wz T ty cn 0 ∧ (0 < wz T ty cn 0 → ∀ i, 0 ≤ i → i < cn → u.2.1 i = pz T ty cn i) ∧ (∀ j, 0 ≤ u.1 j ∧ u.1 j ≤ 6) ∧ (∀ j, -1 ≤ u.2.1 j ∧ u.2.1 j ≤ 199) ∧ (u.2.2 = 0 ∨ u.2.2 = 1)) (fun u => wM ad cI T (u.1, u.2.1, u.2.2, N.2.2.2)) := by
  refine MI.of RX1 (by decide) rfl (Nat.le_of_ble_eq_true rfl) [(0, .ref (ad 0)), (1, .int (zI cn)), (2, .int (zI t))] rfl ?_
  intro p e s m args below meth c A Q E ret ls h hl
  refine z_aload_n E dX1_search_0 hl 0 rfl ?_
  refine z_iconst E dX1_search_1 ?_
  refine pM_fd E h (by omega) dX1_search_2 (fun H locs h => ?_)
  have h : ZH D A s.heap (wM ad cI T (N.1, N.2.1, 0, N.2.2.2)) H locs := h
  have join65 : ∀  (H : Heap) (locs : List Loc) (ls : Array Slot), ZH D A s.heap (wM ad cI T (N.1, N.2.1, 0, N.2.2.2)) H locs → lv_has ls 6 [(0, .ref (ad 0)), (1, .int (zI cn)), (2, .int (zI t))] → W p l e ({ frames := 6, cells := 0, slots := 0, locals := 148 } : Room) s m args below meth c H locs 0 0 Q (F0 m 65 ls []) := by
    intro  H locs ls  h hl
    refine z_aload_n E dX1_search_65 hl 0 rfl ?_
    refine gM_md E h dX1_search_66 ?_
    refine z_iconst E dX1_search_69 ?_
    refine z_iconst E dX1_search_70 ?_
    refine sM_md E h (by omega) dX1_search_71 (fun H locs h => ?_)
    have h : ZH D A s.heap (wM ad cI T (up N.1 0 0, N.2.1, 0, N.2.2.2)) H locs := h
    refine z_aload_n E dX1_search_72 hl 0 rfl ?_
    refine gM_md E h dX1_search_73 ?_
    refine z_iconst E dX1_search_76 ?_
    refine z_iconst E dX1_search_77 ?_
    refine sM_md E h (by omega) dX1_search_78 (fun H locs h => ?_)
    have h : ZH D A s.heap (wM ad cI T (up (up N.1 0 0) 1 0, N.2.1, 0, N.2.2.2)) H locs := h
    refine z_aload_n E dX1_search_79 hl 0 rfl ?_
    refine gM_md E h dX1_search_80 ?_
    refine z_iconst E dX1_search_83 ?_
    refine z_iconst E dX1_search_84 ?_
    refine sM_md E h (by omega) dX1_search_85 (fun H locs h => ?_)
    have h : ZH D A s.heap (wM ad cI T (up (up (up N.1 0 0) 1 0) 2 0, N.2.1, 0, N.2.2.2)) H locs := h
    refine z_iconst E dX1_search_86 ?_
    refine z_istore_n E [(0, .ref (ad 0)), (1, .int (zI cn)), (2, .int (zI t)), (3, .int (zI 0))] dX1_search_87 hl (by decide) [1, 2, 3, 0] rfl (fun ls hl => ?_)
    refine z_iconst E dX1_search_88 ?_
    refine z_istore E [(0, .ref (ad 0)), (1, .int (zI cn)), (2, .int (zI t)), (3, .int (zI 0)), (4, .int (zI 0))] dX1_search_89 hl (by decide) [1, 2, 3, 4, 0] rfl (fun ls hl => ?_)
    have loop91 : ∀ (n91 : Nat) (aa : Int) (nn : Int) (md : FF) (fs : FF) (fd : Int) (H : Heap) (locs : List Loc) (ls : Array Slot), (200 - aa) < (n91 : Int) → (0 ≤ aa ∧ aa ≤ 200) → (nn = sumZ (wt T ty (cn - 1) 0) aa) → (Sc (gP T ty (cn - 1) 0) (fun f x => f 0 = x ∧ (2 ≤ cn → f 1 = fa T ty (cn - 2) (stp T ty 0 x)) ∧ (cn = 3 → f 2 = fa T ty 0 (stp T ty (stp T ty 0 x) (fa T ty (cn - 2) (stp T ty 0 x))))) N.2.1 0 fs fd aa) → (∀ j, 0 ≤ j → j < 3 → md j = 0) → (∀ j, 0 ≤ md j ∧ md j ≤ 6) → (∀ j, -1 ≤ fs j ∧ fs j ≤ 199) → (fd = 0 ∨ fd = 1) → ZH D A s.heap (wM ad cI T (md, fs, fd, N.2.2.2)) H locs → lv_has ls 6 [(0, .ref (ad 0)), (1, .int (zI cn)), (2, .int (zI t)), (3, .int (zI nn)), (4, .int (zI aa))] → W p l e ({ frames := 6, cells := 0, slots := 0, locals := 148 } : Room) s m args below meth c H locs 0 0 Q (F0 m 91 ls []) := by
      intro n91
      induction n91 with
      | zero =>
        intro aa nn md fs fd H locs ls hm91 hc hs hsc hkp hmb hfb hdb h hl
        exfalso; omega
      | succ n91 ih91 =>
        intro aa nn md fs fd H locs ls hm91 hc hs hsc hkp hmb hfb hdb h hl
        refine z_iload E dX1_search_91 hl 4 rfl ?_
        refine z_sipush E dX1_search_93 (by decide +kernel) ?_
        refine z_icmp_ge E 159 dX1_search_96 (by decide) (by omega) (fun c1 => ?_) (fun c1 => ?_)
        · have c1 : (200 : Int) ≤ (aa : Int) := c1
          refine z_iload_n E dX1_search_159 hl 3 rfl ?_
          exact ret (md, fs, fd) dX1_search_160 rfl (⟨by rw [wz_vk (left := cn - 1) (by omega) (by omega) (Vok_0 hT ty), hs, show aa = 200 by omega], fun w i a b => by
            have hh := ((Sc_fin (k := cn) (left := cn - 1) (by omega) (by omega) (Vok_0 hT ty) (show aa = 200 by omega) hsc).2 rfl).2 w
            have z : i = 0 ∨ i = 1 ∨ i = 2 := by omega
            rcases z with z | z | z <;> subst z
            · rw [pz_0]; exact hh.2.1
            · rw [pz_1]; exact hh.2.2.1 (by omega)
            · rw [pz_2, show cn - 3 = 0 by omega]; exact hh.2.2.2 (by omega), hmb, hfb, hdb⟩) h
        · have c1 : (aa : Int) < (200 : Int) := c1
          refine z_aload_n E dX1_search_99 hl 0 rfl ?_
          refine z_iload E dX1_search_100 hl 4 rfl ?_
          refine z_iconst E dX1_search_102 ?_
          refine z_iload_n E dX1_search_103 hl 2 rfl ?_
          refine z_call (n := 3) (rest := []) E h (mM_put l D ad cI T (md, fs, fd, N.2.2.2) aa 0 t ty 0 hT (⟨hmb, hfb, hdb⟩) (by omega) (by omega) (by omega) (by omega) (Vok_0 hT ty) (fun p a b c => (hkp (0 * 3 + p) (by omega) (by omega)).trans (dg_0 p).symm)) q294 q296 qs22 q34 q297 (by decide +kernel) ⟨Nat.le_of_ble_eq_true rfl, Nat.le_of_ble_eq_true rfl⟩ ⟨Nat.le_refl _, Nat.le_refl _⟩ rfl rfl rfl hl.1 (Nat.le_of_ble_eq_true rfl) rfl dX1_search_104 (fun r1 ur1 H locs er1 h => ?_)
          obtain ⟨hzr1, hsr1, hnr1, hkr1, hbr1⟩ := er1
          have h : ZH D A s.heap (wM ad cI T (ur1, fs, fd, N.2.2.2)) H locs := h
          refine z_if_eq E 153 dX1_search_107 (by decide) (by omega) (fun c2 => ?_) (fun c2 => ?_)
          · have c2 : (r1 : Int) = (0 : Int) := c2
            refine z_iinc E [(0, .ref (ad 0)), (1, .int (zI cn)), (2, .int (zI t)), (3, .int (zI nn)), (4, .int (zI (aa + 1)))] dX1_search_153 hl 4 rfl (by decide) [1, 2, 3, 4, 0] rfl (fun ls hl => ?_)
            refine z_goto E 91 dX1_search_156 (by decide) ?_
            exact ih91 (aa + 1) nn ur1 fs fd _ _ _ (by omega) (by omega) (by rw [sumZ_s _ (by omega), ← hs]; unfold wt; rw [if_neg (fun q => by have := hsr1.mpr q; omega)]; omega) (Sc_no hsc (fun q => by have := hsr1.mpr q.1; omega)) (fun j a b => (hkr1 j (by omega)).trans (hkp j a b)) (hbr1) (hfb) (hdb) h (lv_sub hl [0, 1, 2, 3, 4] rfl)
          · have c2 : (r1 : Int) ≠ (0 : Int) := c2
            refine z_iload_n E dX1_search_110 hl 1 rfl ?_
            refine z_iconst E dX1_search_111 ?_
            refine z_icmp_le E 133 dX1_search_112 (by decide) (by omega) (fun c3 => ?_) (fun c3 => ?_)
            · have c3 : (cn : Int) ≤ (1 : Int) := c3
              refine z_aload_n E dX1_search_133 hl 0 rfl ?_
              refine z_iconst E dX1_search_134 ?_
              refine z_iload_n E dX1_search_135 hl 2 rfl ?_
              refine z_call (n := 2) (rest := []) E h (mM_whole l D ad cI T (ur1, fs, fd, N.2.2.2) 1 t ty (stp T ty 0 aa) hT (⟨hbr1, hfb, hdb⟩) (by omega) (by omega) (by omega) ((stp_dig hT (Vok_0 hT ty) (hsr1.mp (by omega))).2.2) (hnr1 (by omega))) q326 q328 qs30 q34 q329 (by decide +kernel) ⟨Nat.le_of_ble_eq_true rfl, Nat.le_of_ble_eq_true rfl⟩ ⟨Nat.le_refl _, Nat.le_refl _⟩ rfl rfl rfl hl.1 (Nat.le_of_ble_eq_true rfl) rfl dX1_search_136 (fun r2 ur2 H locs er2 h => ?_)
              have h : ZH D A s.heap (wM ad cI T (ur1, fs, fd, N.2.2.2)) H locs := h
              refine z_if_eq E 153 dX1_search_139 (by decide) (by omega) (fun c4 => ?_) (fun c4 => ?_)
              · have c4 : (r2 : Int) = (0 : Int) := c4
                refine z_iinc E [(0, .ref (ad 0)), (1, .int (zI cn)), (2, .int (zI t)), (3, .int (zI nn)), (4, .int (zI (aa + 1)))] dX1_search_153 hl 4 rfl (by decide) [1, 2, 3, 4, 0] rfl (fun ls hl => ?_)
                refine z_goto E 91 dX1_search_156 (by decide) ?_
                exact ih91 (aa + 1) nn ur1 fs fd _ _ _ (by omega) (by omega) (by rw [sumZ_s _ (by omega), ← hs]; unfold wt; rw [if_pos (hsr1.mp (by omega)), show cn - 1 = 0 by omega, wz_0, if_neg (fun q => by have := er2.2.mpr q; omega)]; omega) (Sc_no hsc (fun q => by have w := q.2; rw [show cn - 1 = 0 by omega, wz_0, if_neg (fun q => by have := er2.2.mpr q; omega)] at w; omega)) (fun j a b => (hkr1 j (by omega)).trans (hkp j a b)) (hbr1) (hfb) (hdb) h (lv_sub hl [0, 1, 2, 3, 4] rfl)
              · have c4 : (r2 : Int) ≠ (0 : Int) := c4
                refine z_aload_n E dX1_search_142 hl 0 rfl ?_
                refine z_iload E dX1_search_143 hl 4 rfl ?_
                refine z_iconst E dX1_search_145 ?_
                refine z_iconst E dX1_search_146 ?_
                refine z_callv (n := 3) (rest := []) E h (mM_note l D ad cI T (ur1, fs, fd, N.2.2.2) aa (-1) (-1) (⟨hbr1, hfb, hdb⟩) (by omega)) q288 q290 qs21 q34 q291 (by decide +kernel) ⟨Nat.le_of_ble_eq_true rfl, Nat.le_of_ble_eq_true rfl⟩ ⟨Nat.le_refl _, Nat.le_refl _⟩ rfl rfl rfl hl.1 (Nat.le_of_ble_eq_true rfl) rfl dX1_search_147 (fun ur3 H locs er3 h => ?_)
                obtain ⟨h1r3, h0r3, hfr3, hdr3⟩ := er3
                have h : ZH D A s.heap (wM ad cI T (ur1, ur3.1, ur3.2, N.2.2.2)) H locs := h
                refine z_iinc E [(0, .ref (ad 0)), (1, .int (zI cn)), (2, .int (zI t)), (3, .int (zI (nn + 1))), (4, .int (zI aa))] dX1_search_150 hl 3 rfl (by decide) [1, 2, 3, 0, 4] rfl (fun ls hl => ?_)
                refine z_iinc E [(0, .ref (ad 0)), (1, .int (zI cn)), (2, .int (zI t)), (3, .int (zI (nn + 1))), (4, .int (zI (aa + 1)))] dX1_search_153 hl 4 rfl (by decide) [1, 2, 3, 4, 0] rfl (fun ls hl => ?_)
                refine z_goto E 91 dX1_search_156 (by decide) ?_
                exact ih91 (aa + 1) (nn + 1) ur1 ur3.1 ur3.2 _ _ _ (by omega) (by omega) (by rw [sumZ_s _ (by omega), ← hs]; unfold wt; rw [if_pos (hsr1.mp (by omega)), show cn - 1 = 0 by omega, wz_0, if_pos (er2.2.mp (by omega))]) (Sc_yes (by omega) hsc ⟨hsr1.mp (by omega), by rw [show cn - 1 = 0 by omega, wz_0, if_pos (er2.2.mp (by omega))]; omega⟩ h1r3 (fun q => ⟨(h0r3 q).1, (h0r3 q).2.1, fun w => by omega, fun w => by omega⟩)) (fun j a b => (hkr1 j (by omega)).trans (hkp j a b)) (hbr1) (hfr3) (hdr3) h (lv_sub hl [0, 1, 2, 3, 4] rfl)
            · have c3 : (1 : Int) < (cn : Int) := c3
              refine z_aload_n E dX1_search_115 hl 0 rfl ?_
              refine z_iload E dX1_search_116 hl 4 rfl ?_
              refine z_iload_n E dX1_search_118 hl 1 rfl ?_
              refine z_iload_n E dX1_search_119 hl 2 rfl ?_
              refine z_call (n := 3) (rest := []) E h (mM_seconds l D ad cI T (ur1, fs, fd, N.2.2.2) aa cn t ty (stp T ty 0 aa) hT (⟨hbr1, hfb, hdb⟩) (by omega) (by omega) (by omega) ((stp_dig hT (Vok_0 hT ty) (hsr1.mp (by omega))).2.2) (hnr1 (by omega))) q318 q320 qs28 q34 q321 (by decide +kernel) ⟨Nat.le_of_ble_eq_true rfl, Nat.le_of_ble_eq_true rfl⟩ ⟨Nat.le_refl _, Nat.le_refl _⟩ rfl rfl rfl hl.1 (Nat.le_of_ble_eq_true rfl) rfl dX1_search_120 (fun r2 ur2 H locs er2 h => ?_)
              obtain ⟨mr2, fr2, dr2⟩ := ur2
              dsimp only at er2
              obtain ⟨hzr2, hnpr2, hkr2, hbr2, hfr2, hdr2⟩ := er2
              have h : ZH D A s.heap (wM ad cI T (mr2, fr2, dr2, N.2.2.2)) H locs := h
              refine z_istore E [(0, .ref (ad 0)), (1, .int (zI cn)), (2, .int (zI t)), (3, .int (zI nn)), (4, .int (zI aa)), (5, .int (zI r2))] dX1_search_123 hl (by decide) [1, 2, 3, 4, 5, 0] rfl (fun ls hl => ?_)
              refine z_iload_n E dX1_search_125 hl 3 rfl ?_
              refine z_iload E dX1_search_126 hl 5 rfl ?_
              refine z_iadd E dX1_search_128 ?_
              refine z_istore_n E [(0, .ref (ad 0)), (1, .int (zI cn)), (2, .int (zI t)), (3, .int (zI (nn + r2))), (4, .int (zI aa)), (5, .int (zI r2))] dX1_search_129 hl (by decide) [1, 2, 3, 0, 4, 5] rfl (fun ls hl => ?_)
              refine z_goto E 153 dX1_search_130 (by decide) ?_
              refine z_iinc E [(0, .ref (ad 0)), (1, .int (zI cn)), (2, .int (zI t)), (3, .int (zI (nn + r2))), (4, .int (zI (aa + 1))), (5, .int (zI r2))] dX1_search_153 hl 4 rfl (by decide) [1, 2, 3, 4, 0, 5] rfl (fun ls hl => ?_)
              refine z_goto E 91 dX1_search_156 (by decide) ?_
              exact ih91 (aa + 1) (nn + r2) mr2 fr2 dr2 _ _ _ (by omega) (by omega) (by rw [sumZ_s _ (by omega), ← hs]; unfold wt; rw [if_pos (hsr1.mp (by omega)), ← hzr2]) (by
              by_cases w : 0 < wz T ty (cn - 1) (stp T ty 0 aa)
              · exact Sc_yes (by omega) hsc ⟨hsr1.mp (by omega), w⟩ hnpr2.1 (fun q => ⟨((hnpr2.2 q).2 w).1, ((hnpr2.2 q).2 w).2.1, fun _ => ((hnpr2.2 q).2 w).2.2.1, fun x => ((hnpr2.2 q).2 w).2.2.2 x⟩)
              · exact Sc_non hsc (fun q => w q.2) hnpr2.1 (fun q => (hnpr2.2 q).1 w)) (fun j a b => (hkr2 j (by omega)).trans ((hkr1 j (by omega)).trans (hkp j a b))) (hbr2) (hfr2) (hdr2) h (lv_sub hl [0, 1, 2, 3, 4] rfl)
    exact loop91 1000 0 0 (up (up (up N.1 0 0) 1 0) 2 0) N.2.1 0 _ _ _ (by omega) (by omega) ((sumZ_0 _).symm) (Sc_0) (fun j a b => by
          have z : j = 0 ∨ j = 1 ∨ j = 2 := by omega
          rcases z with z | z | z <;> subst z <;> simp [up]) (up_bd (up_bd (up_bd hN.1 (by omega)) (by omega)) (by omega)) (hN.2.1) (Or.inl rfl) h (lv_sub hl [0, 1, 2, 3, 4] rfl)
  refine z_aload_n E dX1_search_5 hl 0 rfl ?_
  refine gM_ex (ex := T.1) E h dX1_search_6 ?_
  have b1 := hT.1
  refine z_if_ne E 65 dX1_search_9 (by decide) (by omega) (fun c4 => ?_) (fun c4 => ?_)
  · have c4 : (T.1 : Int) ≠ (0 : Int) := c4
    exact join65  _ _ _  h (lv_sub hl [0, 1, 2] rfl)
  · have c4 : (T.1 : Int) = (0 : Int) := c4
    refine z_iload_n E dX1_search_12 hl 2 rfl ?_
    refine z_if_ne E 65 dX1_search_13 (by decide) (by omega) (fun c1 => ?_) (fun c1 => ?_)
    · have c1 : (t : Int) ≠ (0 : Int) := c1
      exact join65  _ _ _  h (lv_sub hl [0, 1, 2] rfl)
    · have c1 : (t : Int) = (0 : Int) := c1
      have h0 : T.1 = 0 := by omega
      have hty0 : ty = 0 := by omega
      refine z_aload_n E dX1_search_16 hl 0 rfl ?_
      refine z_iconst E dX1_search_17 ?_
      refine z_iload_n E dX1_search_18 hl 1 rfl ?_
      refine z_iconst E dX1_search_19 ?_
      refine z_icmp_le E 27 dX1_search_20 (by decide) (by omega) (fun c2 => ?_) (fun c2 => ?_)
      · have c2 : (cn : Int) ≤ (1 : Int) := c2
        refine z_iconst E dX1_search_27 ?_
        refine z_iload_n E dX1_search_28 hl 1 rfl ?_
        refine z_iconst E dX1_search_29 ?_
        refine z_icmp_le E 37 dX1_search_30 (by decide) (by omega) (fun c3 => ?_) (fun c3 => ?_)
        · have c3 : (cn : Int) ≤ (2 : Int) := c3
          refine z_iconst E dX1_search_37 ?_
          refine z_callv (n := 3) (rest := []) E h (mM_note l D ad cI T (N.1, N.2.1, 0, N.2.2.2) 0 (-1) (-1) (⟨hN.1, hN.2.1, Or.inl rfl⟩) (by omega)) q288 q290 qs21 q34 q291 (by decide +kernel) ⟨Nat.le_of_ble_eq_true rfl, Nat.le_of_ble_eq_true rfl⟩ ⟨Nat.le_refl _, Nat.le_refl _⟩ rfl rfl rfl hl.1 (Nat.le_of_ble_eq_true rfl) rfl dX1_search_38 (fun ur1 H locs er1 h => ?_)
          obtain ⟨h1r1, h0r1, hfr1, hdr1⟩ := er1
          have h : ZH D A s.heap (wM ad cI T (N.1, ur1.1, ur1.2, N.2.2.2)) H locs := h
          refine z_iload_n E dX1_search_41 hl 1 rfl ?_
          refine z_iconst E dX1_search_42 ?_
          refine z_icmp_ne E 52 dX1_search_43 (by decide) (by omega) (fun c4 => ?_) (fun c4 => ?_)
          · have c4 : (cn : Int) ≠ (1 : Int) := c4
            refine z_iload_n E dX1_search_52 hl 1 rfl ?_
            refine z_iconst E dX1_search_53 ?_
            refine z_icmp_ne E 62 dX1_search_54 (by decide) (by omega) (fun c5 => ?_) (fun c5 => ?_)
            · have c5 : (cn : Int) ≠ (2 : Int) := c5
              refine z_ldc E q293 8000000 (by decide +kernel) dX1_search_62 ?_
              exact ret (N.1, ur1.1, ur1.2) dX1_search_64 rfl (⟨by rw [hty0, show cn = 3 by omega]; exact (wz_free hT h0).2.2.2.symm, fun _ i a b => by
              rw [hty0, pz_free hT h0 (by omega) ⟨a, b⟩]
              have z : i = 0 ∨ i = 1 ∨ i = 2 := by omega
              have hh := (h0r1 rfl).2
              rcases z with z | z | z <;> subst z
              · exact hh.1
              · exact hh.2.1.trans (by omega)
              · exact hh.2.2.trans (by omega), hN.1, hfr1, hdr1⟩) h
            · have c5 : (cn : Int) = (2 : Int) := c5
              refine z_ldc E q292 40000 (by decide +kernel) dX1_search_57 ?_
              refine z_goto E 64 dX1_search_59 (by decide) ?_
              exact ret (N.1, ur1.1, ur1.2) dX1_search_64 rfl (⟨by rw [hty0, show cn = 2 by omega]; exact (wz_free hT h0).2.2.1.symm, fun _ i a b => by
              rw [hty0, pz_free hT h0 (by omega) ⟨a, b⟩]
              have z : i = 0 ∨ i = 1 ∨ i = 2 := by omega
              have hh := (h0r1 rfl).2
              rcases z with z | z | z <;> subst z
              · exact hh.1
              · exact hh.2.1.trans (by omega)
              · exact hh.2.2.trans (by omega), hN.1, hfr1, hdr1⟩) h
          · have c4 : (cn : Int) = (1 : Int) := c4
            refine z_sipush E dX1_search_46 (by decide +kernel) ?_
            refine z_goto E 64 dX1_search_49 (by decide) ?_
            exact ret (N.1, ur1.1, ur1.2) dX1_search_64 rfl (⟨by rw [hty0, show cn = 1 by omega]; exact (wz_free hT h0).2.1.symm, fun _ i a b => by
              rw [hty0, pz_free hT h0 (by omega) ⟨a, b⟩]
              have z : i = 0 ∨ i = 1 ∨ i = 2 := by omega
              have hh := (h0r1 rfl).2
              rcases z with z | z | z <;> subst z
              · exact hh.1
              · exact hh.2.1.trans (by omega)
              · exact hh.2.2.trans (by omega), hN.1, hfr1, hdr1⟩) h
        · have c3 : (2 : Int) < (cn : Int) := c3
          refine z_iconst E dX1_search_33 ?_
          refine z_goto E 38 dX1_search_34 (by decide) ?_
          refine z_callv (n := 3) (rest := []) E h (mM_note l D ad cI T (N.1, N.2.1, 0, N.2.2.2) 0 (-1) 0 (⟨hN.1, hN.2.1, Or.inl rfl⟩) (by omega)) q288 q290 qs21 q34 q291 (by decide +kernel) ⟨Nat.le_of_ble_eq_true rfl, Nat.le_of_ble_eq_true rfl⟩ ⟨Nat.le_refl _, Nat.le_refl _⟩ rfl rfl rfl hl.1 (Nat.le_of_ble_eq_true rfl) rfl dX1_search_38 (fun ur1 H locs er1 h => ?_)
          obtain ⟨h1r1, h0r1, hfr1, hdr1⟩ := er1
          have h : ZH D A s.heap (wM ad cI T (N.1, ur1.1, ur1.2, N.2.2.2)) H locs := h
          refine z_iload_n E dX1_search_41 hl 1 rfl ?_
          refine z_iconst E dX1_search_42 ?_
          refine z_icmp_ne E 52 dX1_search_43 (by decide) (by omega) (fun c4 => ?_) (fun c4 => ?_)
          · have c4 : (cn : Int) ≠ (1 : Int) := c4
            refine z_iload_n E dX1_search_52 hl 1 rfl ?_
            refine z_iconst E dX1_search_53 ?_
            refine z_icmp_ne E 62 dX1_search_54 (by decide) (by omega) (fun c5 => ?_) (fun c5 => ?_)
            · have c5 : (cn : Int) ≠ (2 : Int) := c5
              refine z_ldc E q293 8000000 (by decide +kernel) dX1_search_62 ?_
              exact ret (N.1, ur1.1, ur1.2) dX1_search_64 rfl (⟨by rw [hty0, show cn = 3 by omega]; exact (wz_free hT h0).2.2.2.symm, fun _ i a b => by
              rw [hty0, pz_free hT h0 (by omega) ⟨a, b⟩]
              have z : i = 0 ∨ i = 1 ∨ i = 2 := by omega
              have hh := (h0r1 rfl).2
              rcases z with z | z | z <;> subst z
              · exact hh.1
              · exact hh.2.1.trans (by omega)
              · exact hh.2.2.trans (by omega), hN.1, hfr1, hdr1⟩) h
            · have c5 : (cn : Int) = (2 : Int) := c5
              refine z_ldc E q292 40000 (by decide +kernel) dX1_search_57 ?_
              refine z_goto E 64 dX1_search_59 (by decide) ?_
              exact ret (N.1, ur1.1, ur1.2) dX1_search_64 rfl (⟨by rw [hty0, show cn = 2 by omega]; exact (wz_free hT h0).2.2.1.symm, fun _ i a b => by
              rw [hty0, pz_free hT h0 (by omega) ⟨a, b⟩]
              have z : i = 0 ∨ i = 1 ∨ i = 2 := by omega
              have hh := (h0r1 rfl).2
              rcases z with z | z | z <;> subst z
              · exact hh.1
              · exact hh.2.1.trans (by omega)
              · exact hh.2.2.trans (by omega), hN.1, hfr1, hdr1⟩) h
          · have c4 : (cn : Int) = (1 : Int) := c4
            refine z_sipush E dX1_search_46 (by decide +kernel) ?_
            refine z_goto E 64 dX1_search_49 (by decide) ?_
            exact ret (N.1, ur1.1, ur1.2) dX1_search_64 rfl (⟨by rw [hty0, show cn = 1 by omega]; exact (wz_free hT h0).2.1.symm, fun _ i a b => by
              rw [hty0, pz_free hT h0 (by omega) ⟨a, b⟩]
              have z : i = 0 ∨ i = 1 ∨ i = 2 := by omega
              have hh := (h0r1 rfl).2
              rcases z with z | z | z <;> subst z
              · exact hh.1
              · exact hh.2.1.trans (by omega)
              · exact hh.2.2.trans (by omega), hN.1, hfr1, hdr1⟩) h
      · have c2 : (1 : Int) < (cn : Int) := c2
        refine z_iconst E dX1_search_23 ?_
        refine z_goto E 28 dX1_search_24 (by decide) ?_
        refine z_iload_n E dX1_search_28 hl 1 rfl ?_
        refine z_iconst E dX1_search_29 ?_
        refine z_icmp_le E 37 dX1_search_30 (by decide) (by omega) (fun c3 => ?_) (fun c3 => ?_)
        · have c3 : (cn : Int) ≤ (2 : Int) := c3
          refine z_iconst E dX1_search_37 ?_
          refine z_callv (n := 3) (rest := []) E h (mM_note l D ad cI T (N.1, N.2.1, 0, N.2.2.2) 0 0 (-1) (⟨hN.1, hN.2.1, Or.inl rfl⟩) (by omega)) q288 q290 qs21 q34 q291 (by decide +kernel) ⟨Nat.le_of_ble_eq_true rfl, Nat.le_of_ble_eq_true rfl⟩ ⟨Nat.le_refl _, Nat.le_refl _⟩ rfl rfl rfl hl.1 (Nat.le_of_ble_eq_true rfl) rfl dX1_search_38 (fun ur1 H locs er1 h => ?_)
          obtain ⟨h1r1, h0r1, hfr1, hdr1⟩ := er1
          have h : ZH D A s.heap (wM ad cI T (N.1, ur1.1, ur1.2, N.2.2.2)) H locs := h
          refine z_iload_n E dX1_search_41 hl 1 rfl ?_
          refine z_iconst E dX1_search_42 ?_
          refine z_icmp_ne E 52 dX1_search_43 (by decide) (by omega) (fun c4 => ?_) (fun c4 => ?_)
          · have c4 : (cn : Int) ≠ (1 : Int) := c4
            refine z_iload_n E dX1_search_52 hl 1 rfl ?_
            refine z_iconst E dX1_search_53 ?_
            refine z_icmp_ne E 62 dX1_search_54 (by decide) (by omega) (fun c5 => ?_) (fun c5 => ?_)
            · have c5 : (cn : Int) ≠ (2 : Int) := c5
              refine z_ldc E q293 8000000 (by decide +kernel) dX1_search_62 ?_
              exact ret (N.1, ur1.1, ur1.2) dX1_search_64 rfl (⟨by rw [hty0, show cn = 3 by omega]; exact (wz_free hT h0).2.2.2.symm, fun _ i a b => by
              rw [hty0, pz_free hT h0 (by omega) ⟨a, b⟩]
              have z : i = 0 ∨ i = 1 ∨ i = 2 := by omega
              have hh := (h0r1 rfl).2
              rcases z with z | z | z <;> subst z
              · exact hh.1
              · exact hh.2.1.trans (by omega)
              · exact hh.2.2.trans (by omega), hN.1, hfr1, hdr1⟩) h
            · have c5 : (cn : Int) = (2 : Int) := c5
              refine z_ldc E q292 40000 (by decide +kernel) dX1_search_57 ?_
              refine z_goto E 64 dX1_search_59 (by decide) ?_
              exact ret (N.1, ur1.1, ur1.2) dX1_search_64 rfl (⟨by rw [hty0, show cn = 2 by omega]; exact (wz_free hT h0).2.2.1.symm, fun _ i a b => by
              rw [hty0, pz_free hT h0 (by omega) ⟨a, b⟩]
              have z : i = 0 ∨ i = 1 ∨ i = 2 := by omega
              have hh := (h0r1 rfl).2
              rcases z with z | z | z <;> subst z
              · exact hh.1
              · exact hh.2.1.trans (by omega)
              · exact hh.2.2.trans (by omega), hN.1, hfr1, hdr1⟩) h
          · have c4 : (cn : Int) = (1 : Int) := c4
            refine z_sipush E dX1_search_46 (by decide +kernel) ?_
            refine z_goto E 64 dX1_search_49 (by decide) ?_
            exact ret (N.1, ur1.1, ur1.2) dX1_search_64 rfl (⟨by rw [hty0, show cn = 1 by omega]; exact (wz_free hT h0).2.1.symm, fun _ i a b => by
              rw [hty0, pz_free hT h0 (by omega) ⟨a, b⟩]
              have z : i = 0 ∨ i = 1 ∨ i = 2 := by omega
              have hh := (h0r1 rfl).2
              rcases z with z | z | z <;> subst z
              · exact hh.1
              · exact hh.2.1.trans (by omega)
              · exact hh.2.2.trans (by omega), hN.1, hfr1, hdr1⟩) h
        · have c3 : (2 : Int) < (cn : Int) := c3
          refine z_iconst E dX1_search_33 ?_
          refine z_goto E 38 dX1_search_34 (by decide) ?_
          refine z_callv (n := 3) (rest := []) E h (mM_note l D ad cI T (N.1, N.2.1, 0, N.2.2.2) 0 0 0 (⟨hN.1, hN.2.1, Or.inl rfl⟩) (by omega)) q288 q290 qs21 q34 q291 (by decide +kernel) ⟨Nat.le_of_ble_eq_true rfl, Nat.le_of_ble_eq_true rfl⟩ ⟨Nat.le_refl _, Nat.le_refl _⟩ rfl rfl rfl hl.1 (Nat.le_of_ble_eq_true rfl) rfl dX1_search_38 (fun ur1 H locs er1 h => ?_)
          obtain ⟨h1r1, h0r1, hfr1, hdr1⟩ := er1
          have h : ZH D A s.heap (wM ad cI T (N.1, ur1.1, ur1.2, N.2.2.2)) H locs := h
          refine z_iload_n E dX1_search_41 hl 1 rfl ?_
          refine z_iconst E dX1_search_42 ?_
          refine z_icmp_ne E 52 dX1_search_43 (by decide) (by omega) (fun c4 => ?_) (fun c4 => ?_)
          · have c4 : (cn : Int) ≠ (1 : Int) := c4
            refine z_iload_n E dX1_search_52 hl 1 rfl ?_
            refine z_iconst E dX1_search_53 ?_
            refine z_icmp_ne E 62 dX1_search_54 (by decide) (by omega) (fun c5 => ?_) (fun c5 => ?_)
            · have c5 : (cn : Int) ≠ (2 : Int) := c5
              refine z_ldc E q293 8000000 (by decide +kernel) dX1_search_62 ?_
              exact ret (N.1, ur1.1, ur1.2) dX1_search_64 rfl (⟨by rw [hty0, show cn = 3 by omega]; exact (wz_free hT h0).2.2.2.symm, fun _ i a b => by
              rw [hty0, pz_free hT h0 (by omega) ⟨a, b⟩]
              have z : i = 0 ∨ i = 1 ∨ i = 2 := by omega
              have hh := (h0r1 rfl).2
              rcases z with z | z | z <;> subst z
              · exact hh.1
              · exact hh.2.1.trans (by omega)
              · exact hh.2.2.trans (by omega), hN.1, hfr1, hdr1⟩) h
            · have c5 : (cn : Int) = (2 : Int) := c5
              refine z_ldc E q292 40000 (by decide +kernel) dX1_search_57 ?_
              refine z_goto E 64 dX1_search_59 (by decide) ?_
              exact ret (N.1, ur1.1, ur1.2) dX1_search_64 rfl (⟨by rw [hty0, show cn = 2 by omega]; exact (wz_free hT h0).2.2.1.symm, fun _ i a b => by
              rw [hty0, pz_free hT h0 (by omega) ⟨a, b⟩]
              have z : i = 0 ∨ i = 1 ∨ i = 2 := by omega
              have hh := (h0r1 rfl).2
              rcases z with z | z | z <;> subst z
              · exact hh.1
              · exact hh.2.1.trans (by omega)
              · exact hh.2.2.trans (by omega), hN.1, hfr1, hdr1⟩) h
          · have c4 : (cn : Int) = (1 : Int) := c4
            refine z_sipush E dX1_search_46 (by decide +kernel) ?_
            refine z_goto E 64 dX1_search_49 (by decide) ?_
            exact ret (N.1, ur1.1, ur1.2) dX1_search_64 rfl (⟨by rw [hty0, show cn = 1 by omega]; exact (wz_free hT h0).2.1.symm, fun _ i a b => by
              rw [hty0, pz_free hT h0 (by omega) ⟨a, b⟩]
              have z : i = 0 ∨ i = 1 ∨ i = 2 := by omega
              have hh := (h0r1 rfl).2
              rcases z with z | z | z <;> subst z
              · exact hh.1
              · exact hh.2.1.trans (by omega)
              · exact hh.2.2.trans (by omega), hN.1, hfr1, hdr1⟩) h
end
section
theorem rl_bd {T : TT} (hT : TOk T) : -3 ≤ rl T ∧ rl T ≤ 18 := by
  by_cases h : okR T
  · rw [rl_y h]
    have h1 := lc_bd T
    have h2 := off_bd hT (i := lc T) (by omega)
    omega
  · rw [rl_n h]
    omega
theorem right_iff {T : TT} (hT : TOk T) {a : Int} : stp T 0 0 a = lst T 0 ↔ ∀ pr, 0 ≤ pr → pr < T.1 → ldA T pr a 0 = T.2.2.1 pr := by
  have hb := hT.1
  have hl := lst_bd hT (ty := 0)
  constructor
  · intro h pr x y
    obtain ⟨-, h2, -⟩ := stp_dig hT (a := a) (Vok_0 hT 0) (by omega)
    have h3 := h2 pr x (by omega)
    rw [h, lst_cnt hT ⟨x, by omega⟩ (Or.inl y), dg_0] at h3
    unfold stI at h3
    rw [if_pos (Or.inl y)] at h3
    exact h3.symm
  · intro h
    have k : ∀ pr, 0 ≤ pr → pr ≤ 2 → 0 ≤ stI T 0 pr a (dg pr 0) := by
      intro pr x y
      rw [dg_0]
      unfold stI
      by_cases q : pr < T.1
      · rw [if_pos (Or.inl q), h pr x q]
        exact (hT.2.2.1 pr).1
      · rw [if_neg (by omega)]
        omega
    obtain ⟨h1, h2⟩ := stp_pos hT (v := 0) (by omega) k
    obtain ⟨-, -, h3⟩ := stp_dig hT (a := a) (Vok_0 hT 0) h1.1
    refine v_lst hT h3 (fun pr x y q => ?_)
    rw [h2 pr x y, dg_0]
    unfold stI
    rw [if_pos q]
    exact h pr x (by omega)
end
section
set_option maxHeartbeats 4000000 in
set_option maxRecDepth 100000 in
theorem mM_least (l : Launch) (D : va_G) (ad : Nat → Nat) (cI : ClassId) (T : TT) (N : NN) (hT : TOk T) (hN : NB N) : MI l D [(cI, .int)] yX1_least cX1_least 2 .int 7 173 [.ref (ad 0)] (wM ad cI T N) (fun z (u : FF × FF × Int) => z = (if lc T = 0 then -3 else lc T) ∧ (0 < lc T → ∀ i, 0 ≤ i → i < lc T → u.2.1 i = pz T 0 (lc T) i) ∧ (∀ j, 0 ≤ u.1 j ∧ u.1 j ≤ 6) ∧ (∀ j, -1 ≤ u.2.1 j ∧ u.2.1 j ≤ 199) ∧ (u.2.2 = 0 ∨ u.2.2 = 1)) (fun u => wM ad cI T (u.1, u.2.1, u.2.2, N.2.2.2)) := by
  refine MI.of RX1 (by decide) rfl (Nat.le_of_ble_eq_true rfl) [(0, .ref (ad 0))] rfl ?_
  intro p e s m args below meth c A Q E ret ls h hl
  refine z_iconst E dX1_least_0 ?_
  refine z_istore_n E [(0, .ref (ad 0)), (1, .int (zI 1))] dX1_least_1 hl (by decide) [1, 0] rfl (fun ls hl => ?_)
  have loop2 : ∀ (n2 : Nat) (k : Int) (md : FF) (fs : FF) (fd : Int) (H : Heap) (locs : List Loc) (ls : Array Slot), (4 - k) < (n2 : Int) → (1 ≤ k ∧ k ≤ 4) → (∀ j, 1 ≤ j → j < k → ¬ 0 < wz T 0 j 0) → (∀ j, 0 ≤ md j ∧ md j ≤ 6) → (∀ j, -1 ≤ fs j ∧ fs j ≤ 199) → (fd = 0 ∨ fd = 1) → ZH D A s.heap (wM ad cI T (md, fs, fd, N.2.2.2)) H locs → lv_has ls 2 [(0, .ref (ad 0)), (1, .int (zI k))] → W p l e ({ frames := 7, cells := 0, slots := 0, locals := 173 } : Room) s m args below meth c H locs 0 0 Q (F0 m 2 ls []) := by
    intro n2
    induction n2 with
    | zero =>
      intro k md fs fd H locs ls hm2 hk ha hmb hfb hdb h hl
      exfalso; omega
    | succ n2 ih2 =>
      intro k md fs fd H locs ls hm2 hk ha hmb hfb hdb h hl
      refine z_iload_n E dX1_least_2 hl 1 rfl ?_
      refine z_iconst E dX1_least_3 ?_
      refine z_icmp_ge E 24 dX1_least_4 (by decide) (by omega) (fun c1 => ?_) (fun c1 => ?_)
      · have c1 : (4 : Int) ≤ (k : Int) := c1
        refine z_bipush E dX1_least_24 (by decide +kernel) ?_
        exact ret (md, fs, fd) dX1_least_26 rfl (⟨by rw [if_pos (lc_0 (fun j a b => ha j a (by omega))).symm], fun q => by rw [← lc_0 (T := T) (fun j a b => ha j a (by omega))] at q; omega, hmb, hfb, hdb⟩) h
      · have c1 : (k : Int) < (4 : Int) := c1
        refine z_aload_n E dX1_least_7 hl 0 rfl ?_
        refine z_iload_n E dX1_least_8 hl 1 rfl ?_
        refine z_iconst E dX1_least_9 ?_
        refine z_call (n := 2) (rest := []) E h (mM_search l D ad cI T (md, fs, fd, N.2.2.2) k 0 0 hT (⟨hmb, hfb, hdb⟩) (by omega) (by omega) (by omega)) q284 q286 qs20 q34 q287 (by decide +kernel) ⟨Nat.le_of_ble_eq_true rfl, Nat.le_of_ble_eq_true rfl⟩ ⟨Nat.le_refl _, Nat.le_refl _⟩ rfl rfl rfl hl.1 (Nat.le_of_ble_eq_true rfl) rfl dX1_least_10 (fun r1 ur1 H locs er1 h => ?_)
        obtain ⟨mr1, fr1, dr1⟩ := ur1
        dsimp only at er1
        obtain ⟨hzr1, hppr1, hbr1, hfr1, hdr1⟩ := er1
        have bwr1 := wz_bd T (0) 0 (show 0 ≤ k ∧ k ≤ 3 by omega)
        have h : ZH D A s.heap (wM ad cI T (mr1, fr1, dr1, N.2.2.2)) H locs := h
        refine z_if_le E 18 dX1_least_13 (by decide) (by omega) (fun c2 => ?_) (fun c2 => ?_)
        · have c2 : (r1 : Int) ≤ (0 : Int) := c2
          refine z_iinc E [(0, .ref (ad 0)), (1, .int (zI (k + 1)))] dX1_least_18 hl 1 rfl (by decide) [1, 0] rfl (fun ls hl => ?_)
          refine z_goto E 2 dX1_least_21 (by decide) ?_
          exact ih2 (k + 1) mr1 fr1 dr1 _ _ _ (by omega) (by omega) (fun j a b => by
          by_cases q : j = k
          · rw [q, ← hzr1]; omega
          · exact ha j a (by omega)) (hbr1) (hfr1) (hdr1) h (lv_sub hl [0, 1] rfl)
        · have c2 : (0 : Int) < (r1 : Int) := c2
          refine z_iload_n E dX1_least_16 hl 1 rfl ?_
          exact ret (mr1, fr1, dr1) dX1_least_17 rfl (⟨by rw [← lc_k (T := T) (by omega) ha (by rw [← hzr1]; omega), if_neg (by omega)], fun _ i a b => by rw [← lc_k (T := T) (k := k) (by omega) ha (by rw [← hzr1]; omega)] at b ⊢; exact hppr1 (by rw [← hzr1]; omega) i a b, hbr1, hfr1, hdr1⟩) h
  exact loop2 10 1 N.1 N.2.1 N.2.2.1 _ _ _ (by omega) (by omega) (fun j a b => by omega) (hN.1) (hN.2.1) (hN.2.2) h (lv_sub hl [0, 1] rfl)
set_option maxHeartbeats 4000000 in
set_option maxRecDepth 100000 in
theorem mM_programs (l : Launch) (D : va_G) (ad : Nat → Nat) (cI : ClassId) (T : TT) (N : NN) (cn : Int) (hT : TOk T) (hN : NB N) (hr : -2147483648 ≤ cn ∧ cn ≤ 2147483647) : MI l D [(cI, .int)] yX1_programs cX1_programs 2 .int 7 173 [.ref (ad 0), .int (zI cn)] (wM ad cI T N) (fun z (u : FF × FF × Int) => z = (if cn < 1 ∨ 3 < cn then -4 else wz T 0 cn 0) ∧ (∀ j, 0 ≤ u.1 j ∧ u.1 j ≤ 6) ∧ (∀ j, -1 ≤ u.2.1 j ∧ u.2.1 j ≤ 199) ∧ (u.2.2 = 0 ∨ u.2.2 = 1)) (fun u => wM ad cI T (u.1, u.2.1, u.2.2, N.2.2.2)) := by
  refine MI.of RX1 (by decide) rfl (Nat.le_of_ble_eq_true rfl) [(0, .ref (ad 0)), (1, .int (zI cn))] rfl ?_
  intro p e s m args below meth c A Q E ret ls h hl
  refine z_iload_n E dX1_programs_0 hl 1 rfl ?_
  refine z_iconst E dX1_programs_1 ?_
  refine z_icmp_lt E 10 dX1_programs_2 (by decide) (by omega) (fun c1 => ?_) (fun c1 => ?_)
  · have c1 : (cn : Int) < (1 : Int) := c1
    refine z_bipush E dX1_programs_10 (by decide +kernel) ?_
    refine z_goto E 21 dX1_programs_12 (by decide) ?_
    exact ret (N.1, N.2.1, N.2.2.1) dX1_programs_21 rfl (⟨by rw [if_pos (by omega)], hN⟩) h
  · have c1 : (1 : Int) ≤ (cn : Int) := c1
    refine z_iload_n E dX1_programs_5 hl 1 rfl ?_
    refine z_iconst E dX1_programs_6 ?_
    refine z_icmp_le E 15 dX1_programs_7 (by decide) (by omega) (fun c2 => ?_) (fun c2 => ?_)
    · have c2 : (cn : Int) ≤ (3 : Int) := c2
      refine z_aload_n E dX1_programs_15 hl 0 rfl ?_
      refine z_iload_n E dX1_programs_16 hl 1 rfl ?_
      refine z_iconst E dX1_programs_17 ?_
      refine z_call (n := 2) (rest := []) E h (mM_search l D ad cI T N cn 0 0 hT hN (by omega) (by omega) (by omega)) q284 q286 qs20 q34 q287 (by decide +kernel) ⟨Nat.le_of_ble_eq_true rfl, Nat.le_of_ble_eq_true rfl⟩ ⟨Nat.le_refl _, Nat.le_refl _⟩ rfl rfl rfl hl.1 (Nat.le_of_ble_eq_true rfl) rfl dX1_programs_18 (fun r1 ur1 H locs er1 h => ?_)
      obtain ⟨mr1, fr1, dr1⟩ := ur1
      dsimp only at er1
      obtain ⟨hzr1, hppr1, hbr1, hfr1, hdr1⟩ := er1
      have bwr1 := wz_bd T (0) 0 (show 0 ≤ cn ∧ cn ≤ 3 by omega)
      have h : ZH D A s.heap (wM ad cI T (mr1, fr1, dr1, N.2.2.2)) H locs := h
      exact ret (mr1, fr1, dr1) dX1_programs_21 rfl (⟨by rw [if_neg (by omega)]; exact hzr1, hbr1, hfr1, hdr1⟩) h
    · have c2 : (3 : Int) < (cn : Int) := c2
      refine z_bipush E dX1_programs_10 (by decide +kernel) ?_
      refine z_goto E 21 dX1_programs_12 (by decide) ?_
      exact ret (N.1, N.2.1, N.2.2.1) dX1_programs_21 rfl (⟨by rw [if_pos (by omega)], hN⟩) h
set_option maxHeartbeats 4000000 in
set_option maxRecDepth 100000 in
theorem mM_atom (l : Launch) (D : va_G) (ad : Nat → Nat) (cI : ClassId) (T : TT) (N : NN) (i : Int) (hT : TOk T) (hN : NB N) (hr : -2147483648 ≤ i ∧ i ≤ 2147483647) : MI l D [(cI, .int)] yX1_atom cX1_atom 3 .int 8 194 [.ref (ad 0), .int (zI i)] (wM ad cI T N) (fun z (u : FF × FF × Int) => z = (if i < 0 ∨ lc T ≤ i then -3 else pz T 0 (lc T) i) ∧ (∀ j, 0 ≤ u.1 j ∧ u.1 j ≤ 6) ∧ (∀ j, -1 ≤ u.2.1 j ∧ u.2.1 j ≤ 199) ∧ (u.2.2 = 0 ∨ u.2.2 = 1)) (fun u => wM ad cI T (u.1, u.2.1, u.2.2, N.2.2.2)) := by
  refine MI.of RX1 (by decide) rfl (Nat.le_of_ble_eq_true rfl) [(0, .ref (ad 0)), (1, .int (zI i))] rfl ?_
  intro p e s m args below meth c A Q E ret ls h hl
  refine z_aload_n E dX1_atom_0 hl 0 rfl ?_
  refine z_call (n := 0) (rest := []) E h (mM_least l D ad cI T N  hT hN) q338 q281 q282 q34 q283 (by decide +kernel) ⟨Nat.le_of_ble_eq_true rfl, Nat.le_of_ble_eq_true rfl⟩ ⟨Nat.le_refl _, Nat.le_refl _⟩ rfl rfl rfl hl.1 (Nat.le_of_ble_eq_true rfl) rfl dX1_atom_1 (fun r1 ur1 H locs er1 h => ?_)
  obtain ⟨mr1, fr1, dr1⟩ := ur1
  dsimp only at er1
  obtain ⟨hzr1, hppr1, hbr1, hfr1, hdr1⟩ := er1
  have hlb := lc_bd T
  have hlzr1 : r1 = -3 ∧ lc T = 0 ∨ r1 = lc T ∧ 0 < lc T := by rw [hzr1]; split <;> omega
  have h : ZH D A s.heap (wM ad cI T (mr1, fr1, dr1, N.2.2.2)) H locs := h
  refine z_istore_n E [(0, .ref (ad 0)), (1, .int (zI i)), (2, .int (zI r1))] dX1_atom_4 hl (by decide) [1, 2, 0] rfl (fun ls hl => ?_)
  refine z_iload_n E dX1_atom_5 hl 2 rfl ?_
  refine z_if_lt E 18 dX1_atom_6 (by decide) (by omega) (fun c1 => ?_) (fun c1 => ?_)
  · have c1 : (r1 : Int) < (0 : Int) := c1
    refine z_bipush E dX1_atom_18 (by decide +kernel) ?_
    refine z_goto E 29 dX1_atom_20 (by decide) ?_
    exact ret (mr1, fr1, dr1) dX1_atom_29 rfl (⟨by rw [if_pos (by omega)], hbr1, hfr1, hdr1⟩) h
  · have c1 : (0 : Int) ≤ (r1 : Int) := c1
    refine z_iload_n E dX1_atom_9 hl 1 rfl ?_
    refine z_if_lt E 18 dX1_atom_10 (by decide) (by omega) (fun c2 => ?_) (fun c2 => ?_)
    · have c2 : (i : Int) < (0 : Int) := c2
      refine z_bipush E dX1_atom_18 (by decide +kernel) ?_
      refine z_goto E 29 dX1_atom_20 (by decide) ?_
      exact ret (mr1, fr1, dr1) dX1_atom_29 rfl (⟨by rw [if_pos (by omega)], hbr1, hfr1, hdr1⟩) h
    · have c2 : (0 : Int) ≤ (i : Int) := c2
      refine z_iload_n E dX1_atom_13 hl 1 rfl ?_
      refine z_iload_n E dX1_atom_14 hl 2 rfl ?_
      refine z_icmp_lt E 23 dX1_atom_15 (by decide) (by omega) (fun c3 => ?_) (fun c3 => ?_)
      · have c3 : (i : Int) < (r1 : Int) := c3
        refine z_aload_n E dX1_atom_23 hl 0 rfl ?_
        refine gM_fs E h dX1_atom_24 ?_
        refine z_iload_n E dX1_atom_27 hl 1 rfl ?_
        refine lM_fs E h (by omega) dX1_atom_28 (fun x1 ex1 => ?_)
        have ex1 : x1 = fr1 i := ex1
        have b1 := hfr1 i
        exact ret (mr1, fr1, dr1) dX1_atom_29 rfl (⟨by rw [if_neg (by omega), ex1]; exact hppr1 (by omega) i (by omega) (by omega), hbr1, hfr1, hdr1⟩) h
      · have c3 : (r1 : Int) ≤ (i : Int) := c3
        refine z_bipush E dX1_atom_18 (by decide +kernel) ?_
        refine z_goto E 29 dX1_atom_20 (by decide) ?_
        exact ret (mr1, fr1, dr1) dX1_atom_29 rfl (⟨by rw [if_pos (by omega)], hbr1, hfr1, hdr1⟩) h
set_option maxHeartbeats 4000000 in
set_option maxRecDepth 100000 in
theorem mM_ways (l : Launch) (D : va_G) (ad : Nat → Nat) (cI : ClassId) (T : TT) (N : NN) (hT : TOk T) (hN : NB N) : MI l D [(cI, .int)] yX1_ways cX1_ways 2 .int 8 194 [.ref (ad 0)] (wM ad cI T N) (fun z (u : FF × FF × Int) => z = wq T ∧ (∀ j, 0 ≤ u.1 j ∧ u.1 j ≤ 6) ∧ (∀ j, -1 ≤ u.2.1 j ∧ u.2.1 j ≤ 199) ∧ (u.2.2 = 0 ∨ u.2.2 = 1)) (fun u => wM ad cI T (u.1, u.2.1, u.2.2, N.2.2.2)) := by
  refine MI.of RX1 (by decide) rfl (Nat.le_of_ble_eq_true rfl) [(0, .ref (ad 0))] rfl ?_
  intro p e s m args below meth c A Q E ret ls h hl
  refine z_aload_n E dX1_ways_0 hl 0 rfl ?_
  refine z_call (n := 0) (rest := []) E h (mM_least l D ad cI T N  hT hN) q338 q281 q282 q34 q283 (by decide +kernel) ⟨Nat.le_of_ble_eq_true rfl, Nat.le_of_ble_eq_true rfl⟩ ⟨Nat.le_refl _, Nat.le_refl _⟩ rfl rfl rfl hl.1 (Nat.le_of_ble_eq_true rfl) rfl dX1_ways_1 (fun r1 ur1 H locs er1 h => ?_)
  obtain ⟨mr1, fr1, dr1⟩ := ur1
  dsimp only at er1
  obtain ⟨hzr1, hppr1, hbr1, hfr1, hdr1⟩ := er1
  have hlb := lc_bd T
  have hlzr1 : r1 = -3 ∧ lc T = 0 ∨ r1 = lc T ∧ 0 < lc T := by rw [hzr1]; split <;> omega
  have h : ZH D A s.heap (wM ad cI T (mr1, fr1, dr1, N.2.2.2)) H locs := h
  refine z_istore_n E [(0, .ref (ad 0)), (1, .int (zI r1))] dX1_ways_4 hl (by decide) [1, 0] rfl (fun ls hl => ?_)
  refine z_iload_n E dX1_ways_5 hl 1 rfl ?_
  refine z_if_ge E 13 dX1_ways_6 (by decide) (by omega) (fun c1 => ?_) (fun c1 => ?_)
  · have c1 : (0 : Int) ≤ (r1 : Int) := c1
    refine z_aload_n E dX1_ways_13 hl 0 rfl ?_
    refine z_iload_n E dX1_ways_14 hl 1 rfl ?_
    refine z_iconst E dX1_ways_15 ?_
    refine z_call (n := 2) (rest := []) E h (mM_search l D ad cI T (mr1, fr1, dr1, N.2.2.2) r1 1 2 hT (⟨hbr1, hfr1, hdr1⟩) (by omega) (by omega) (by omega)) q284 q286 qs20 q34 q287 (by decide +kernel) ⟨Nat.le_of_ble_eq_true rfl, Nat.le_of_ble_eq_true rfl⟩ ⟨Nat.le_refl _, Nat.le_refl _⟩ rfl rfl rfl hl.1 (Nat.le_of_ble_eq_true rfl) rfl dX1_ways_16 (fun r2 ur2 H locs er2 h => ?_)
    obtain ⟨mr2, fr2, dr2⟩ := ur2
    dsimp only at er2
    obtain ⟨hzr2, hppr2, hbr2, hfr2, hdr2⟩ := er2
    have bwr2 := wz_bd T (2) 0 (show 0 ≤ r1 ∧ r1 ≤ 3 by omega)
    have h : ZH D A s.heap (wM ad cI T (mr2, fr2, dr2, N.2.2.2)) H locs := h
    exact ret (mr2, fr2, dr2) dX1_ways_19 rfl (⟨by unfold wq; rw [if_neg (by omega), hzr2, show r1 = lc T by omega], hbr2, hfr2, hdr2⟩) h
  · have c1 : (r1 : Int) < (0 : Int) := c1
    refine z_iconst E dX1_ways_9 ?_
    refine z_goto E 19 dX1_ways_10 (by decide) ?_
    exact ret (mr1, fr1, dr1) dX1_ways_19 rfl (⟨by unfold wq; rw [if_pos (by omega)], hbr1, hfr1, hdr1⟩) h
set_option maxHeartbeats 4000000 in
set_option maxRecDepth 100000 in
theorem mM_can (l : Launch) (D : va_G) (ad : Nat → Nat) (cI : ClassId) (T : TT) (N : NN) (hT : TOk T) (hN : NB N) : MI l D [(cI, .int)] yX1_can cX1_can 1 .boolean 9 215 [.ref (ad 0)] (wM ad cI T N) (fun z (u : FF × FF × Int) => z = (if 0 < wq T then 1 else 0) ∧ (∀ j, 0 ≤ u.1 j ∧ u.1 j ≤ 6) ∧ (∀ j, -1 ≤ u.2.1 j ∧ u.2.1 j ≤ 199) ∧ (u.2.2 = 0 ∨ u.2.2 = 1)) (fun u => wM ad cI T (u.1, u.2.1, u.2.2, N.2.2.2)) := by
  refine MI.of RX1 (by decide) rfl (Nat.le_of_ble_eq_true rfl) [(0, .ref (ad 0))] rfl ?_
  intro p e s m args below meth c A Q E ret ls h hl
  refine z_aload_n E dX1_can_0 hl 0 rfl ?_
  refine z_call (n := 0) (rest := []) E h (mM_ways l D ad cI T N  hT hN) q343 q344 q345 q34 q346 (by decide +kernel) ⟨Nat.le_of_ble_eq_true rfl, Nat.le_of_ble_eq_true rfl⟩ ⟨Nat.le_refl _, Nat.le_refl _⟩ rfl rfl rfl hl.1 (Nat.le_of_ble_eq_true rfl) rfl dX1_can_1 (fun r1 ur1 H locs er1 h => ?_)
  obtain ⟨mr1, fr1, dr1⟩ := ur1
  dsimp only at er1
  obtain ⟨hzr1, hbr1, hfr1, hdr1⟩ := er1
  have hwb := wq_bd T
  have h : ZH D A s.heap (wM ad cI T (mr1, fr1, dr1, N.2.2.2)) H locs := h
  refine z_if_le E 11 dX1_can_4 (by decide) (by omega) (fun c1 => ?_) (fun c1 => ?_)
  · have c1 : (r1 : Int) ≤ (0 : Int) := c1
    refine z_iconst E dX1_can_11 ?_
    exact ret (mr1, fr1, dr1) dX1_can_12 (zI_bool (by omega)).1 (⟨by rw [if_neg (by omega)], hbr1, hfr1, hdr1⟩) h
  · have c1 : (0 : Int) < (r1 : Int) := c1
    refine z_iconst E dX1_can_7 ?_
    refine z_goto E 12 dX1_can_8 (by decide) ?_
    exact ret (mr1, fr1, dr1) dX1_can_12 (zI_bool (by omega)).1 (⟨by rw [if_pos (by omega)], hbr1, hfr1, hdr1⟩) h
set_option maxHeartbeats 4000000 in
set_option maxRecDepth 100000 in
theorem mM_make (l : Launch) (D : va_G) (ad : Nat → Nat) (cI : ClassId) (T : TT) (N : NN) (hT : TOk T) (hN : NB N) : MI l D [(cI, .int)] yX1_make cX1_make 6 .int 8 194 [.ref (ad 0)] (wM ad cI T N) (fun z (u : NN) => z = rl T ∧ (okR T → ∀ j, 0 ≤ j → j < off T (lc T) → u.2.2.2 j = rF T j) ∧ NB u) (fun u => wM ad cI T u) := by
  refine MI.of RX1 (by decide) rfl (Nat.le_of_ble_eq_true rfl) [(0, .ref (ad 0))] rfl ?_
  intro p e s m args below meth c A Q E ret ls h hl
  refine z_aload_n E dX1_make_0 hl 0 rfl ?_
  refine z_call (n := 0) (rest := []) E h (mM_least l D ad cI T N  hT hN) q338 q281 q282 q34 q283 (by decide +kernel) ⟨Nat.le_of_ble_eq_true rfl, Nat.le_of_ble_eq_true rfl⟩ ⟨Nat.le_refl _, Nat.le_refl _⟩ rfl rfl rfl hl.1 (Nat.le_of_ble_eq_true rfl) rfl dX1_make_1 (fun r1 ur1 H locs er1 h => ?_)
  obtain ⟨mr1, fr1, dr1⟩ := ur1
  dsimp only at er1
  obtain ⟨hzr1, hppr1, hbr1, hfr1, hdr1⟩ := er1
  have hlb := lc_bd T
  have hlzr1 : r1 = -3 ∧ lc T = 0 ∨ r1 = lc T ∧ 0 < lc T := by rw [hzr1]; split <;> omega
  have h : ZH D A s.heap (wM ad cI T (mr1, fr1, dr1, N.2.2.2)) H locs := h
  refine z_istore_n E [(0, .ref (ad 0)), (1, .int (zI r1))] dX1_make_4 hl (by decide) [1, 0] rfl (fun ls hl => ?_)
  refine z_iload_n E dX1_make_5 hl 1 rfl ?_
  refine z_if_ge E 12 dX1_make_6 (by decide) (by omega) (fun c1 => ?_) (fun c1 => ?_)
  · have c1 : (0 : Int) ≤ (r1 : Int) := c1
    refine z_iconst E dX1_make_12 ?_
    refine z_istore_n E [(0, .ref (ad 0)), (1, .int (zI r1)), (2, .int (zI 0))] dX1_make_13 hl (by decide) [1, 2, 0] rfl (fun ls hl => ?_)
    refine z_iconst E dX1_make_14 ?_
    refine z_istore_n E [(0, .ref (ad 0)), (1, .int (zI r1)), (2, .int (zI 0)), (3, .int (zI 0))] dX1_make_15 hl (by decide) [1, 2, 3, 0] rfl (fun ls hl => ?_)
    have loop16 : ∀ (n16 : Nat) (k : Int) (nn : Int) (rv : FF) (H : Heap) (locs : List Loc) (ls : Array Slot), (lc T - k) < (n16 : Int) → (0 ≤ k ∧ k ≤ lc T) → (nn = off T k) → (∀ q, 0 ≤ q → q < k → 0 < rz T q) → (∀ j, 0 ≤ j → j < nn → rv j = rF T j) → ZH D A s.heap (wM ad cI T (mr1, fr1, dr1, rv)) H locs → lv_has ls 6 [(0, .ref (ad 0)), (1, .int (zI r1)), (2, .int (zI nn)), (3, .int (zI k))] → W p l e ({ frames := 8, cells := 0, slots := 0, locals := 194 } : Room) s m args below meth c H locs 0 0 Q (F0 m 16 ls []) := by
      intro n16
      induction n16 with
      | zero =>
        intro k nn rv H locs ls hm16 hk hn hsz hgv h hl
        exfalso; omega
      | succ n16 ih16 =>
        intro k nn rv H locs ls hm16 hk hn hsz hgv h hl
        have hob := off_bd hT hk
        refine z_iload_n E dX1_make_16 hl 3 rfl ?_
        refine z_iload_n E dX1_make_17 hl 1 rfl ?_
        refine z_icmp_ge E 92 dX1_make_18 (by decide) (by omega) (fun c2 => ?_) (fun c2 => ?_)
        · have c2 : (r1 : Int) ≤ (k : Int) := c2
          refine z_iload_n E dX1_make_92 hl 2 rfl ?_
          exact ret (mr1, fr1, dr1, rv) dX1_make_93 rfl (⟨by rw [rl_y ⟨by omega, fun q a b => hsz q a (by omega)⟩, hn, show k = lc T by omega], fun _ j a b => hgv j a (by rw [hn, show k = lc T by omega]; exact b), ⟨hbr1, hfr1, hdr1⟩⟩) h
        · have c2 : (k : Int) < (r1 : Int) := c2
          refine z_aload_n E dX1_make_21 hl 0 rfl ?_
          refine z_aload_n E dX1_make_22 hl 0 rfl ?_
          refine gM_fs E h dX1_make_23 ?_
          refine z_iload_n E dX1_make_26 hl 3 rfl ?_
          refine lM_fs E h (by omega) dX1_make_27 (fun x1 ex1 => ?_)
          have ex1 : x1 = fr1 k := ex1
          have b1 := hfr1 k
          refine z_iconst E dX1_make_28 ?_
          have hpx := hppr1 (by omega) k (by omega) (by omega)
          have hpb := pz_bd T (i := k) (by omega)
          refine z_call (n := 2) (rest := []) E h (mM_size l D ad cI T (mr1, fr1, dr1, rv) x1 2 hT (by omega) (by omega)) q306 q308 qs25 q34 q309 (by decide +kernel) ⟨Nat.le_of_ble_eq_true rfl, Nat.le_of_ble_eq_true rfl⟩ ⟨Nat.le_refl _, Nat.le_refl _⟩ rfl rfl rfl hl.1 (Nat.le_of_ble_eq_true rfl) rfl dX1_make_29 (fun r2 ur2 H locs er2 h => ?_)
          have br2 := szA_bd (hT.2.1 2) (show 0 ≤ x1 by omega)
          have h : ZH D A s.heap (wM ad cI T (mr1, fr1, dr1, rv)) H locs := h
          have hrz : r2 = rz T k := by rw [er2, ex1, hppr1 (by omega) k (by omega) (by omega)]; rfl
          refine z_istore E [(0, .ref (ad 0)), (1, .int (zI r1)), (2, .int (zI nn)), (3, .int (zI k)), (4, .int (zI r2))] dX1_make_32 hl (by decide) [1, 2, 3, 4, 0] rfl (fun ls hl => ?_)
          refine z_iload E dX1_make_34 hl 4 rfl ?_
          refine z_if_ne E 42 dX1_make_36 (by decide) (by omega) (fun c3 => ?_) (fun c3 => ?_)
          · have c3 : (r2 : Int) ≠ (0 : Int) := c3
            refine z_iconst E dX1_make_42 ?_
            refine z_istore E [(0, .ref (ad 0)), (1, .int (zI r1)), (2, .int (zI nn)), (3, .int (zI k)), (4, .int (zI r2)), (5, .int (zI 0))] dX1_make_43 hl (by decide) [1, 2, 3, 4, 5, 0] rfl (fun ls hl => ?_)
            have loop45 : ∀ (n45 : Nat) (i : Int) (nn : Int) (rv : FF) (H : Heap) (locs : List Loc) (ls : Array Slot), (r2 - i) < (n45 : Int) → (0 ≤ i ∧ i ≤ r2) → (nn = off T k + i) → (∀ j, 0 ≤ j → j < nn → rv j = rF T j) → ZH D A s.heap (wM ad cI T (mr1, fr1, dr1, rv)) H locs → lv_has ls 6 [(0, .ref (ad 0)), (1, .int (zI r1)), (2, .int (zI nn)), (3, .int (zI k)), (4, .int (zI r2)), (5, .int (zI i))] → W p l e ({ frames := 8, cells := 0, slots := 0, locals := 194 } : Room) s m args below meth c H locs 0 0 Q (F0 m 45 ls []) := by
              intro n45
              induction n45 with
              | zero =>
                intro i nn rv H locs ls hm45 hi hn2 hgv2 h hl
                exfalso; omega
              | succ n45 ih45 =>
                intro i nn rv H locs ls hm45 hi hn2 hgv2 h hl
                refine z_iload E dX1_make_45 hl 5 rfl ?_
                refine z_iload E dX1_make_47 hl 4 rfl ?_
                refine z_icmp_ge E 86 dX1_make_49 (by decide) (by omega) (fun c4 => ?_) (fun c4 => ?_)
                · have c4 : (r2 : Int) ≤ (i : Int) := c4
                  refine z_iinc E [(0, .ref (ad 0)), (1, .int (zI r1)), (2, .int (zI nn)), (3, .int (zI (k + 1))), (4, .int (zI r2)), (5, .int (zI i))] dX1_make_86 hl 3 rfl (by decide) [1, 2, 3, 0, 4, 5] rfl (fun ls hl => ?_)
                  refine z_goto E 16 dX1_make_89 (by decide) ?_
                  exact ih16 (k + 1) nn rv _ _ _ (by omega) (by omega) (by rw [off_s _ (by omega), hn2]; omega) (fun q a b => by
          by_cases e : q = k
          · rw [e]; omega
          · exact hsz q a (by omega)) (hgv2) h (lv_sub hl [0, 1, 2, 3] rfl)
                · have c4 : (i : Int) < (r2 : Int) := c4
                  refine z_iload_n E dX1_make_52 hl 2 rfl ?_
                  refine z_bipush E dX1_make_53 (by decide +kernel) ?_
                  refine z_icmp_ge E 80 dX1_make_55 (by decide) (by omega) (fun c5 => ?_) (fun c5 => ?_)
                  · have c5 : (18 : Int) ≤ (nn : Int) := c5
                    exfalso; omega
                  · have c5 : (nn : Int) < (18 : Int) := c5
                    refine z_aload_n E dX1_make_58 hl 0 rfl ?_
                    refine gM_rv E h dX1_make_59 ?_
                    refine z_iload_n E dX1_make_62 hl 2 rfl ?_
                    refine z_aload_n E dX1_make_63 hl 0 rfl ?_
                    refine z_aload_n E dX1_make_64 hl 0 rfl ?_
                    refine gM_fs E h dX1_make_65 ?_
                    refine z_iload_n E dX1_make_68 hl 3 rfl ?_
                    refine lM_fs E h (by omega) dX1_make_69 (fun x2 ex2 => ?_)
                    have ex2 : x2 = fr1 k := ex2
                    have b2 := hfr1 k
                    refine z_iconst E dX1_make_70 ?_
                    refine z_iload E dX1_make_71 hl 5 rfl ?_
                    refine z_call (n := 3) (rest := [.int (zI nn), .ref (ad 7)]) E h (mM_letter l D ad cI T (mr1, fr1, dr1, rv) x2 2 i hT (by omega) (by omega) (by rw [ex2, ← ex1, ← er2]; omega)) q314 q316 qs27 q34 q317 (by decide +kernel) ⟨Nat.le_of_ble_eq_true rfl, Nat.le_of_ble_eq_true rfl⟩ ⟨Nat.le_refl _, Nat.le_refl _⟩ rfl rfl rfl hl.1 (Nat.le_of_ble_eq_true rfl) rfl dX1_make_73 (fun r3 ur3 H locs er3 h => ?_)
                    have br3 := ltA_bd hT (n := T.2.1 2) (pr := 2) (i := i) (show 0 ≤ x2 ∧ x2 < 200 by omega)
                    have h : ZH D A s.heap (wM ad cI T (mr1, fr1, dr1, rv)) H locs := h
                    refine sM_rv E h (by omega) dX1_make_76 (fun H locs h => ?_)
                    have h : ZH D A s.heap (wM ad cI T (mr1, fr1, dr1, up rv nn r3)) H locs := h
                    refine z_iinc E [(0, .ref (ad 0)), (1, .int (zI r1)), (2, .int (zI (nn + 1))), (3, .int (zI k)), (4, .int (zI r2)), (5, .int (zI i))] dX1_make_77 hl 2 rfl (by decide) [1, 2, 0, 3, 4, 5] rfl (fun ls hl => ?_)
                    refine z_iinc E [(0, .ref (ad 0)), (1, .int (zI r1)), (2, .int (zI (nn + 1))), (3, .int (zI k)), (4, .int (zI r2)), (5, .int (zI (i + 1)))] dX1_make_80 hl 5 rfl (by decide) [1, 2, 3, 4, 5, 0] rfl (fun ls hl => ?_)
                    refine z_goto E 45 dX1_make_83 (by decide) ?_
                    exact ih45 (i + 1) (nn + 1) (up rv nn r3) _ _ _ (by omega) (by omega) (by omega) (up_ext hgv2 (by rw [hn2, rF_at hT (by omega) (by omega), er3, ex2, hppr1 (by omega) k (by omega) (by omega)]; rfl)) h (lv_sub hl [0, 1, 2, 3, 4, 5] rfl)
            exact loop45 100 0 nn rv _ _ _ (by omega) (by omega) (by omega) (hgv) h (lv_sub hl [0, 1, 2, 3, 4, 5] rfl)
          · have c3 : (r2 : Int) = (0 : Int) := c3
            refine z_bipush E dX1_make_39 (by decide +kernel) ?_
            exact ret (mr1, fr1, dr1, rv) dX1_make_41 rfl (⟨(rl_n (fun q => by have := q.2 k (by omega) (by omega); omega)).symm, fun q => by have := q.2 k (by omega) (by omega); omega, ⟨hbr1, hfr1, hdr1⟩⟩) h
    exact loop16 10 0 0 N.2.2.2 _ _ _ (by omega) (by omega) ((off_0 T).symm) (fun q a b => by omega) (fun j a b => by omega) h (lv_sub hl [0, 1, 2, 3] rfl)
  · have c1 : (r1 : Int) < (0 : Int) := c1
    refine z_bipush E dX1_make_9 (by decide +kernel) ?_
    exact ret (mr1, fr1, dr1, N.2.2.2) dX1_make_11 rfl (⟨(rl_n (fun q => by have := q.1; omega)).symm, fun q => by have := q.1; omega, ⟨hbr1, hfr1, hdr1⟩⟩) h
set_option maxHeartbeats 4000000 in
set_option maxRecDepth 100000 in
theorem mM_resultLength (l : Launch) (D : va_G) (ad : Nat → Nat) (cI : ClassId) (T : TT) (N : NN) (hT : TOk T) (hN : NB N) : MI l D [(cI, .int)] yX1_resultLength cX1_resultLength 1 .int 9 219 [.ref (ad 0)] (wM ad cI T N) (fun z (u : NN) => z = rl T ∧ NB u) (fun u => wM ad cI T u) := by
  refine MI.of RX1 (by decide) rfl (Nat.le_of_ble_eq_true rfl) [(0, .ref (ad 0))] rfl ?_
  intro p e s m args below meth c A Q E ret ls h hl
  refine z_aload_n E dX1_resultLength_0 hl 0 rfl ?_
  refine z_call (n := 0) (rest := []) E h (mM_make l D ad cI T N  hT hN) q352 q354 qs31 q34 q355 (by decide +kernel) ⟨Nat.le_of_ble_eq_true rfl, Nat.le_of_ble_eq_true rfl⟩ ⟨Nat.le_refl _, Nat.le_refl _⟩ rfl rfl rfl hl.1 (Nat.le_of_ble_eq_true rfl) rfl dX1_resultLength_1 (fun r1 ur1 H locs er1 h => ?_)
  obtain ⟨hzr1, hvr1, hNr1⟩ := er1
  have h : ZH D A s.heap (wM ad cI T ur1) H locs := h
  exact ret ur1 dX1_resultLength_4 rfl (⟨hzr1, hNr1⟩) h
set_option maxHeartbeats 4000000 in
set_option maxRecDepth 100000 in
theorem mM_result (l : Launch) (D : va_G) (ad : Nat → Nat) (cI : ClassId) (T : TT) (N : NN) (i : Int) (hT : TOk T) (hN : NB N) (hr : -2147483648 ≤ i ∧ i ≤ 2147483647) : MI l D [(cI, .int)] yX1_result cX1_result 3 .int 9 219 [.ref (ad 0), .int (zI i)] (wM ad cI T N) (fun z (u : NN) => z = rv T i ∧ NB u) (fun u => wM ad cI T u) := by
  refine MI.of RX1 (by decide) rfl (Nat.le_of_ble_eq_true rfl) [(0, .ref (ad 0)), (1, .int (zI i))] rfl ?_
  intro p e s m args below meth c A Q E ret ls h hl
  refine z_aload_n E dX1_result_0 hl 0 rfl ?_
  refine z_call (n := 0) (rest := []) E h (mM_make l D ad cI T N  hT hN) q352 q354 qs31 q34 q355 (by decide +kernel) ⟨Nat.le_of_ble_eq_true rfl, Nat.le_of_ble_eq_true rfl⟩ ⟨Nat.le_refl _, Nat.le_refl _⟩ rfl rfl rfl hl.1 (Nat.le_of_ble_eq_true rfl) rfl dX1_result_1 (fun r1 ur1 H locs er1 h => ?_)
  obtain ⟨hzr1, hvr1, hNr1⟩ := er1
  have h : ZH D A s.heap (wM ad cI T ur1) H locs := h
  have hrb : -3 ≤ rl T ∧ rl T ≤ 18 := rl_bd hT
  refine z_istore_n E [(0, .ref (ad 0)), (1, .int (zI i)), (2, .int (zI r1))] dX1_result_4 hl (by decide) [1, 2, 0] rfl (fun ls hl => ?_)
  refine z_iload_n E dX1_result_5 hl 1 rfl ?_
  refine z_if_lt E 20 dX1_result_6 (by decide) (by omega) (fun c1 => ?_) (fun c1 => ?_)
  · have c1 : (i : Int) < (0 : Int) := c1
    refine z_bipush E dX1_result_20 (by decide +kernel) ?_
    refine z_goto E 31 dX1_result_22 (by decide) ?_
    exact ret ur1 dX1_result_31 rfl (⟨(rv_n (fun q => by have h1 := rl_y q.1; have h2 := off_bd hT (i := lc T) (by have := lc_bd T; omega); have h3 := lc_bd T; omega)).symm, hNr1⟩) h
  · have c1 : (0 : Int) ≤ (i : Int) := c1
    refine z_iload_n E dX1_result_9 hl 1 rfl ?_
    refine z_iload_n E dX1_result_10 hl 2 rfl ?_
    refine z_icmp_ge E 20 dX1_result_11 (by decide) (by omega) (fun c2 => ?_) (fun c2 => ?_)
    · have c2 : (r1 : Int) ≤ (i : Int) := c2
      refine z_bipush E dX1_result_20 (by decide +kernel) ?_
      refine z_goto E 31 dX1_result_22 (by decide) ?_
      exact ret ur1 dX1_result_31 rfl (⟨(rv_n (fun q => by have h1 := rl_y q.1; have h2 := off_bd hT (i := lc T) (by have := lc_bd T; omega); have h3 := lc_bd T; omega)).symm, hNr1⟩) h
    · have c2 : (i : Int) < (r1 : Int) := c2
      refine z_iload_n E dX1_result_14 hl 1 rfl ?_
      refine z_bipush E dX1_result_15 (by decide +kernel) ?_
      refine z_icmp_le E 25 dX1_result_17 (by decide) (by omega) (fun c3 => ?_) (fun c3 => ?_)
      · have c3 : (i : Int) ≤ (17 : Int) := c3
        have hok : okR T := Classical.byContradiction (fun q => by have := rl_n q; omega)
        refine z_aload_n E dX1_result_25 hl 0 rfl ?_
        refine gM_rv E h dX1_result_26 ?_
        refine z_iload_n E dX1_result_29 hl 1 rfl ?_
        refine lM_rv E h (by omega) dX1_result_30 (fun x1 ex1 => ?_)
        have ex1 : x1 = ur1.2.2.2 i := ex1
        exact ret ur1 dX1_result_31 rfl (⟨by rw [rv_y ⟨hok, by omega, by rw [← rl_y hok, ← hzr1]; omega⟩, ex1]; exact hvr1 hok i (by omega) (by rw [← rl_y hok, ← hzr1]; omega), hNr1⟩) h
      · have c3 : (17 : Int) < (i : Int) := c3
        refine z_bipush E dX1_result_20 (by decide +kernel) ?_
        refine z_goto E 31 dX1_result_22 (by decide) ?_
        exact ret ur1 dX1_result_31 rfl (⟨(rv_n (fun q => by have h1 := rl_y q.1; have h2 := off_bd hT (i := lc T) (by have := lc_bd T; omega); have h3 := lc_bd T; omega)).symm, hNr1⟩) h
set_option maxHeartbeats 4000000 in
set_option maxRecDepth 100000 in
theorem mM_right (l : Launch) (D : va_G) (ad : Nat → Nat) (cI : ClassId) (T : TT) (N : NN) (atom : Int) (hT : TOk T) (hr : -2147483648 ≤ atom ∧ atom ≤ 2147483647) : MI l D [(cI, .int)] yX1_right cX1_right 3 .boolean 3 72 [.ref (ad 0), .int (zI atom)] (wM ad cI T N) (fun z (_ : Unit) => (z = 0 ∨ z = 1) ∧ (z = 1 ↔ 0 ≤ atom ∧ atom < 200 ∧ stp T 0 0 atom = lst T 0)) (fun _ => wM ad cI T N) := by
  refine MI.of RX1 (by decide) rfl (Nat.le_of_ble_eq_true rfl) [(0, .ref (ad 0)), (1, .int (zI atom))] rfl ?_
  intro p e s m args below meth c A Q E ret ls h hl
  refine z_iload_n E dX1_right_0 hl 1 rfl ?_
  refine z_if_lt E 11 dX1_right_1 (by decide) (by omega) (fun c1 => ?_) (fun c1 => ?_)
  · have c1 : (atom : Int) < (0 : Int) := c1
    refine z_iconst E dX1_right_11 ?_
    exact ret () dX1_right_12 (zI_bool (by omega)).1 (⟨by omega, ⟨fun q => by omega, fun q => by omega⟩⟩) h
  · have c1 : (0 : Int) ≤ (atom : Int) := c1
    refine z_iload_n E dX1_right_4 hl 1 rfl ?_
    refine z_sipush E dX1_right_5 (by decide +kernel) ?_
    refine z_icmp_le E 13 dX1_right_8 (by decide) (by omega) (fun c2 => ?_) (fun c2 => ?_)
    · have c2 : (atom : Int) ≤ (199 : Int) := c2
      refine z_iconst E dX1_right_13 ?_
      refine z_istore_n E [(0, .ref (ad 0)), (1, .int (zI atom)), (2, .int (zI 0))] dX1_right_14 hl (by decide) [1, 2, 0] rfl (fun ls hl => ?_)
      have bT := hT.1
      have loop15 : ∀ (n15 : Nat) (pr : Int) (H : Heap) (locs : List Loc) (ls : Array Slot), (T.1 - pr) < (n15 : Int) → (0 ≤ pr ∧ pr ≤ T.1) → (∀ p, 0 ≤ p → p < pr → ldA T p atom 0 = T.2.2.1 p) → ZH D A s.heap (wM ad cI T N) H locs → lv_has ls 3 [(0, .ref (ad 0)), (1, .int (zI atom)), (2, .int (zI pr))] → W p l e ({ frames := 3, cells := 0, slots := 0, locals := 72 } : Room) s m args below meth c H locs 0 0 Q (F0 m 15 ls []) := by
        intro n15
        induction n15 with
        | zero =>
          intro pr H locs ls hm15 hpr hp h hl
          exfalso; omega
        | succ n15 ih15 =>
          intro pr H locs ls hm15 hpr hp h hl
          refine z_iload_n E dX1_right_15 hl 2 rfl ?_
          refine z_aload_n E dX1_right_16 hl 0 rfl ?_
          refine gM_ex (ex := T.1) E h dX1_right_17 ?_
          have b1 := hT.1
          refine z_icmp_ge E 47 dX1_right_20 (by decide) (by omega) (fun c3 => ?_) (fun c3 => ?_)
          · have c3 : (T.1 : Int) ≤ (pr : Int) := c3
            refine z_iconst E dX1_right_47 ?_
            exact ret () dX1_right_48 (zI_bool (by omega)).1 (⟨by omega, ⟨fun q => ⟨by omega, by omega, (right_iff hT).mpr (fun p a b => hp p a (by omega))⟩, fun q => rfl⟩⟩) h
          · have c3 : (pr : Int) < (T.1 : Int) := c3
            refine z_aload_n E dX1_right_23 hl 0 rfl ?_
            refine z_iload_n E dX1_right_24 hl 1 rfl ?_
            refine z_iload_n E dX1_right_25 hl 2 rfl ?_
            refine z_iconst E dX1_right_26 ?_
            refine z_call (n := 3) (rest := []) E h (mM_after l D ad cI T N atom pr 0 hT (by omega) (by omega) (by omega)) q302 q304 qs24 q34 q305 (by decide +kernel) ⟨Nat.le_of_ble_eq_true rfl, Nat.le_of_ble_eq_true rfl⟩ ⟨Nat.le_refl _, Nat.le_refl _⟩ rfl rfl rfl hl.1 (Nat.le_of_ble_eq_true rfl) rfl dX1_right_27 (fun r1 ur1 H locs er1 h => ?_)
            have br1 := ldA_bd hT (pr := pr) (a := atom) (show 0 ≤ 0 by omega)
            have h : ZH D A s.heap (wM ad cI T N) H locs := h
            refine z_aload_n E dX1_right_30 hl 0 rfl ?_
            refine gM_ol E h dX1_right_31 ?_
            refine z_iload_n E dX1_right_34 hl 2 rfl ?_
            refine lM_ol E h (by omega) dX1_right_35 (fun x1 ex1 => ?_)
            have ex1 : x1 = T.2.2.1 pr := ex1
            have b2 := hT.2.2.1 pr
            refine z_icmp_eq E 41 dX1_right_36 (by decide) (by omega) (fun c4 => ?_) (fun c4 => ?_)
            · have c4 : (r1 : Int) = (x1 : Int) := c4
              refine z_iinc E [(0, .ref (ad 0)), (1, .int (zI atom)), (2, .int (zI (pr + 1)))] dX1_right_41 hl 2 rfl (by decide) [1, 2, 0] rfl (fun ls hl => ?_)
              refine z_goto E 15 dX1_right_44 (by decide) ?_
              exact ih15 (pr + 1) _ _ _ (by omega) (by omega) (fun p a b => by
            by_cases q : p = pr
            · rw [q, ← er1, ← ex1]; exact c4
            · exact hp p a (by omega)) h (lv_sub hl [0, 1, 2] rfl)
            · have c4 : (r1 : Int) ≠ (x1 : Int) := c4
              refine z_iconst E dX1_right_39 ?_
              exact ret () dX1_right_40 (zI_bool (by omega)).1 (⟨by omega, ⟨fun q => by omega, fun q => absurd ((right_iff hT (a := atom)).mp q.2.2 pr (by omega) (by omega)) (by rw [← er1, ← ex1]; exact c4)⟩⟩) h
      exact loop15 10 0 _ _ _ (by omega) (by omega) (fun p a b => by omega) h (lv_sub hl [0, 1, 2] rfl)
    · have c2 : (199 : Int) < (atom : Int) := c2
      refine z_iconst E dX1_right_11 ?_
      exact ret () dX1_right_12 (zI_bool (by omega)).1 (⟨by omega, ⟨fun q => by omega, fun q => by omega⟩⟩) h
set_option maxHeartbeats 4000000 in
set_option maxRecDepth 100000 in
theorem mM_badLetter (l : Launch) (D : va_G) (ad : Nat → Nat) (cI : ClassId) (T : TT) (N : NN) (x : Int) (hr : -2147483648 ≤ x ∧ x ≤ 2147483647) : MI l D [(cI, .int)] yX1_badLetter cX1_badLetter 2 .boolean 0 0 [.ref (ad 0), .int (zI x)] (wM ad cI T N) (fun z (_ : Unit) => (z = 0 ∨ z = 1) ∧ (z = 1 ↔ x < 0 ∨ 3 < x)) (fun _ => wM ad cI T N) := by
  refine MI.of RX1 (by decide) rfl (Nat.le_of_ble_eq_true rfl) [(0, .ref (ad 0)), (1, .int (zI x))] rfl ?_
  intro p e s m args below meth c A Q E ret ls h hl
  refine z_iload_n E dX1_badLetter_0 hl 1 rfl ?_
  refine z_if_lt E 9 dX1_badLetter_1 (by decide) (by omega) (fun c1 => ?_) (fun c1 => ?_)
  · have c1 : (x : Int) < (0 : Int) := c1
    refine z_iconst E dX1_badLetter_9 ?_
    refine z_goto E 14 dX1_badLetter_10 (by decide) ?_
    exact ret () dX1_badLetter_14 (zI_bool (by omega)).1 (⟨by omega, ⟨fun q => by omega, fun q => by omega⟩⟩) h
  · have c1 : (0 : Int) ≤ (x : Int) := c1
    refine z_iload_n E dX1_badLetter_4 hl 1 rfl ?_
    refine z_iconst E dX1_badLetter_5 ?_
    refine z_icmp_le E 13 dX1_badLetter_6 (by decide) (by omega) (fun c2 => ?_) (fun c2 => ?_)
    · have c2 : (x : Int) ≤ (3 : Int) := c2
      refine z_iconst E dX1_badLetter_13 ?_
      exact ret () dX1_badLetter_14 (zI_bool (by omega)).1 (⟨by omega, ⟨fun q => by omega, fun q => by omega⟩⟩) h
    · have c2 : (3 : Int) < (x : Int) := c2
      refine z_iconst E dX1_badLetter_9 ?_
      refine z_goto E 14 dX1_badLetter_10 (by decide) ?_
      exact ret () dX1_badLetter_14 (zI_bool (by omega)).1 (⟨by omega, ⟨fun q => by omega, fun q => by omega⟩⟩) h
set_option maxHeartbeats 4000000 in
set_option maxRecDepth 100000 in
theorem mM_typeIn (l : Launch) (D : va_G) (ad : Nat → Nat) (cI : ClassId) (T : TT) (N : NN) (x : Int) (hT : TOk T) (hr : -2147483648 ≤ x ∧ x ≤ 2147483647) : MI l D [(cI, .int)] yX1_typeIn cX1_typeIn 2 .int 1 21 [.ref (ad 0), .int (zI x)] (wM ad cI T N) (fun z (_ : Unit) => z = vIn T x) (fun _ => wM ad cI (tIn T x) N) := by
  refine MI.of RX1 (by decide) rfl (Nat.le_of_ble_eq_true rfl) [(0, .ref (ad 0)), (1, .int (zI x))] rfl ?_
  intro p e s m args below meth c A Q E ret ls h hl
  refine z_aload_n E dX1_typeIn_0 hl 0 rfl ?_
  refine z_iload_n E dX1_typeIn_1 hl 1 rfl ?_
  refine z_call (n := 1) (rest := []) E h (mM_badLetter l D ad cI T N x (by omega)) q260 q262 qs19 q34 q263 (by decide +kernel) ⟨Nat.le_of_ble_eq_true rfl, Nat.le_of_ble_eq_true rfl⟩ ⟨Nat.le_refl _, Nat.le_refl _⟩ rfl rfl rfl hl.1 (Nat.le_of_ble_eq_true rfl) rfl dX1_typeIn_2 (fun r1 ur1 H locs er1 h => ?_)
  have h : ZH D A s.heap (wM ad cI T N) H locs := h
  refine z_if_eq E 10 dX1_typeIn_5 (by decide) (by omega) (fun c1 => ?_) (fun c1 => ?_)
  · have c1 : (r1 : Int) = (0 : Int) := c1
    refine z_aload_n E dX1_typeIn_10 hl 0 rfl ?_
    refine gM_il E h dX1_typeIn_11 ?_
    refine z_iconst E dX1_typeIn_14 ?_
    refine lM_il E h (by omega) dX1_typeIn_15 (fun x1 ex1 => ?_)
    have ex1 : x1 = T.2.1 2 := ex1
    have b1 := hT.2.1 2
    refine z_bipush E dX1_typeIn_16 (by decide +kernel) ?_
    refine z_icmp_ne E 24 dX1_typeIn_18 (by decide) (by omega) (fun c2 => ?_) (fun c2 => ?_)
    · have c2 : (x1 : Int) ≠ (6 : Int) := c2
      refine z_aload_n E dX1_typeIn_24 hl 0 rfl ?_
      refine gM_iL E h dX1_typeIn_25 ?_
      refine z_bipush E dX1_typeIn_28 (by decide +kernel) ?_
      refine z_aload_n E dX1_typeIn_30 hl 0 rfl ?_
      refine gM_il E h dX1_typeIn_31 ?_
      refine z_iconst E dX1_typeIn_34 ?_
      refine lM_il E h (by omega) dX1_typeIn_35 (fun x2 ex2 => ?_)
      have ex2 : x2 = T.2.1 2 := ex2
      have b2 := hT.2.1 2
      refine z_iadd E dX1_typeIn_36 ?_
      refine z_iload_n E dX1_typeIn_37 hl 1 rfl ?_
      refine sM_iL E h (by omega) dX1_typeIn_38 (fun H locs h => ?_)
      have h : ZH D A s.heap (wM ad cI (T.1, T.2.1, T.2.2.1, up T.2.2.2.1 (12 + x2) x, T.2.2.2.2) N) H locs := h
      refine z_aload_n E dX1_typeIn_39 hl 0 rfl ?_
      refine gM_il E h dX1_typeIn_40 ?_
      refine z_iconst E dX1_typeIn_43 ?_
      refine z_aload_n E dX1_typeIn_44 hl 0 rfl ?_
      refine gM_il E h dX1_typeIn_45 ?_
      refine z_iconst E dX1_typeIn_48 ?_
      refine lM_il E h (by omega) dX1_typeIn_49 (fun x3 ex3 => ?_)
      have ex3 : x3 = T.2.1 2 := ex3
      have b3 := hT.2.1 2
      refine z_iconst E dX1_typeIn_50 ?_
      refine z_iadd E dX1_typeIn_51 ?_
      refine sM_il E h (by omega) dX1_typeIn_52 (fun H locs h => ?_)
      have h : ZH D A s.heap (wM ad cI (T.1, up T.2.1 2 (x3 + 1), T.2.2.1, up T.2.2.2.1 (12 + x2) x, T.2.2.2.2) N) H locs := h
      refine z_aload_n E dX1_typeIn_53 hl 0 rfl ?_
      refine gM_il E h dX1_typeIn_54 ?_
      refine z_iconst E dX1_typeIn_57 ?_
      refine lM_il E h (by omega) dX1_typeIn_58 (fun x4 ex4 => ?_)
      have ex4 : x4 = (up T.2.1 2 (x3 + 1)) 2 := ex4
      have eT : tIn T x = (T.1, up T.2.1 2 (x3 + 1), T.2.2.1, up T.2.2.2.1 (12 + x2) x, T.2.2.2.2) := by unfold tIn; rw [if_pos (by omega), ex2, ex3]
      rw [← eT] at h
      exact ret () dX1_typeIn_59 rfl (by unfold vIn; rw [if_neg (by omega), if_neg (by omega), ex4, up_s, ex3]) h
    · have c2 : (x1 : Int) = (6 : Int) := c2
      refine z_bipush E dX1_typeIn_21 (by decide +kernel) ?_
      have eT : tIn T x = T := by unfold tIn; rw [if_neg (by omega)]
      rw [← eT] at h
      exact ret () dX1_typeIn_23 rfl (by unfold vIn; rw [if_neg (by omega), if_pos (by omega)]) h
  · have c1 : (r1 : Int) ≠ (0 : Int) := c1
    refine z_iconst E dX1_typeIn_8 ?_
    have eT : tIn T x = T := by unfold tIn; rw [if_neg (by omega)]
    rw [← eT] at h
    exact ret () dX1_typeIn_9 rfl (by unfold vIn; rw [if_pos (by omega)]) h
set_option maxHeartbeats 4000000 in
set_option maxRecDepth 100000 in
theorem mM_typeOut (l : Launch) (D : va_G) (ad : Nat → Nat) (cI : ClassId) (T : TT) (N : NN) (x : Int) (hT : TOk T) (hr : -2147483648 ≤ x ∧ x ≤ 2147483647) : MI l D [(cI, .int)] yX1_typeOut cX1_typeOut 2 .int 1 21 [.ref (ad 0), .int (zI x)] (wM ad cI T N) (fun z (_ : Unit) => z = vOut T x) (fun _ => wM ad cI (tOut T x) N) := by
  refine MI.of RX1 (by decide) rfl (Nat.le_of_ble_eq_true rfl) [(0, .ref (ad 0)), (1, .int (zI x))] rfl ?_
  intro p e s m args below meth c A Q E ret ls h hl
  refine z_aload_n E dX1_typeOut_0 hl 0 rfl ?_
  refine z_iload_n E dX1_typeOut_1 hl 1 rfl ?_
  refine z_call (n := 1) (rest := []) E h (mM_badLetter l D ad cI T N x (by omega)) q260 q262 qs19 q34 q263 (by decide +kernel) ⟨Nat.le_of_ble_eq_true rfl, Nat.le_of_ble_eq_true rfl⟩ ⟨Nat.le_refl _, Nat.le_refl _⟩ rfl rfl rfl hl.1 (Nat.le_of_ble_eq_true rfl) rfl dX1_typeOut_2 (fun r1 ur1 H locs er1 h => ?_)
  have h : ZH D A s.heap (wM ad cI T N) H locs := h
  refine z_if_eq E 10 dX1_typeOut_5 (by decide) (by omega) (fun c1 => ?_) (fun c1 => ?_)
  · have c1 : (r1 : Int) = (0 : Int) := c1
    refine z_aload_n E dX1_typeOut_10 hl 0 rfl ?_
    refine gM_ol E h dX1_typeOut_11 ?_
    refine z_iconst E dX1_typeOut_14 ?_
    refine lM_ol E h (by omega) dX1_typeOut_15 (fun x1 ex1 => ?_)
    have ex1 : x1 = T.2.2.1 2 := ex1
    have b1 := hT.2.2.1 2
    refine z_bipush E dX1_typeOut_16 (by decide +kernel) ?_
    refine z_icmp_ne E 24 dX1_typeOut_18 (by decide) (by omega) (fun c2 => ?_) (fun c2 => ?_)
    · have c2 : (x1 : Int) ≠ (6 : Int) := c2
      refine z_aload_n E dX1_typeOut_24 hl 0 rfl ?_
      refine gM_oL E h dX1_typeOut_25 ?_
      refine z_bipush E dX1_typeOut_28 (by decide +kernel) ?_
      refine z_aload_n E dX1_typeOut_30 hl 0 rfl ?_
      refine gM_ol E h dX1_typeOut_31 ?_
      refine z_iconst E dX1_typeOut_34 ?_
      refine lM_ol E h (by omega) dX1_typeOut_35 (fun x2 ex2 => ?_)
      have ex2 : x2 = T.2.2.1 2 := ex2
      have b2 := hT.2.2.1 2
      refine z_iadd E dX1_typeOut_36 ?_
      refine z_iload_n E dX1_typeOut_37 hl 1 rfl ?_
      refine sM_oL E h (by omega) dX1_typeOut_38 (fun H locs h => ?_)
      have h : ZH D A s.heap (wM ad cI (T.1, T.2.1, T.2.2.1, T.2.2.2.1, up T.2.2.2.2 (12 + x2) x) N) H locs := h
      refine z_aload_n E dX1_typeOut_39 hl 0 rfl ?_
      refine gM_ol E h dX1_typeOut_40 ?_
      refine z_iconst E dX1_typeOut_43 ?_
      refine z_aload_n E dX1_typeOut_44 hl 0 rfl ?_
      refine gM_ol E h dX1_typeOut_45 ?_
      refine z_iconst E dX1_typeOut_48 ?_
      refine lM_ol E h (by omega) dX1_typeOut_49 (fun x3 ex3 => ?_)
      have ex3 : x3 = T.2.2.1 2 := ex3
      have b3 := hT.2.2.1 2
      refine z_iconst E dX1_typeOut_50 ?_
      refine z_iadd E dX1_typeOut_51 ?_
      refine sM_ol E h (by omega) dX1_typeOut_52 (fun H locs h => ?_)
      have h : ZH D A s.heap (wM ad cI (T.1, T.2.1, up T.2.2.1 2 (x3 + 1), T.2.2.2.1, up T.2.2.2.2 (12 + x2) x) N) H locs := h
      refine z_aload_n E dX1_typeOut_53 hl 0 rfl ?_
      refine gM_ol E h dX1_typeOut_54 ?_
      refine z_iconst E dX1_typeOut_57 ?_
      refine lM_ol E h (by omega) dX1_typeOut_58 (fun x4 ex4 => ?_)
      have ex4 : x4 = (up T.2.2.1 2 (x3 + 1)) 2 := ex4
      have eT : tOut T x = (T.1, T.2.1, up T.2.2.1 2 (x3 + 1), T.2.2.2.1, up T.2.2.2.2 (12 + x2) x) := by unfold tOut; rw [if_pos (by omega), ex2, ex3]
      rw [← eT] at h
      exact ret () dX1_typeOut_59 rfl (by unfold vOut; rw [if_neg (by omega), if_neg (by omega), ex4, up_s, ex3]) h
    · have c2 : (x1 : Int) = (6 : Int) := c2
      refine z_bipush E dX1_typeOut_21 (by decide +kernel) ?_
      have eT : tOut T x = T := by unfold tOut; rw [if_neg (by omega)]
      rw [← eT] at h
      exact ret () dX1_typeOut_23 rfl (by unfold vOut; rw [if_neg (by omega), if_pos (by omega)]) h
  · have c1 : (r1 : Int) ≠ (0 : Int) := c1
    refine z_iconst E dX1_typeOut_8 ?_
    have eT : tOut T x = T := by unfold tOut; rw [if_neg (by omega)]
    rw [← eT] at h
    exact ret () dX1_typeOut_9 rfl (by unfold vOut; rw [if_pos (by omega)]) h
set_option maxHeartbeats 4000000 in
set_option maxRecDepth 100000 in
theorem mM_erase (l : Launch) (D : va_G) (ad : Nat → Nat) (cI : ClassId) (T : TT) (N : NN)  : MV l D [(cI, .int)] yX1_erase cX1_erase 1 0 0 [.ref (ad 0)] (wM ad cI T N) (fun _ : Unit => True) (fun _ => wM ad cI (tEr T) N) := by
  refine MV.of RX1 (by decide) rfl (Nat.le_of_ble_eq_true rfl) [(0, .ref (ad 0))] rfl ?_
  intro p e s m args below meth c A Q E ret ls h hl
  refine z_aload_n E dX1_erase_0 hl 0 rfl ?_
  refine gM_il E h dX1_erase_1 ?_
  refine z_iconst E dX1_erase_4 ?_
  refine z_iconst E dX1_erase_5 ?_
  refine sM_il E h (by omega) dX1_erase_6 (fun H locs h => ?_)
  have h : ZH D A s.heap (wM ad cI (T.1, up T.2.1 2 0, T.2.2.1, T.2.2.2.1, T.2.2.2.2) N) H locs := h
  refine z_aload_n E dX1_erase_7 hl 0 rfl ?_
  refine gM_ol E h dX1_erase_8 ?_
  refine z_iconst E dX1_erase_11 ?_
  refine z_iconst E dX1_erase_12 ?_
  refine sM_ol E h (by omega) dX1_erase_13 (fun H locs h => ?_)
  have h : ZH D A s.heap (wM ad cI (T.1, up T.2.1 2 0, up T.2.2.1 2 0, T.2.2.2.1, T.2.2.2.2) N) H locs := h
  exact ret () dX1_erase_14 (trivial) h
set_option maxHeartbeats 4000000 in
set_option maxRecDepth 100000 in
theorem mM_learn (l : Launch) (D : va_G) (ad : Nat → Nat) (cI : ClassId) (T : TT) (N : NN) (hT : TOk T) : MI l D [(cI, .int)] yX1_learn cX1_learn 2 .int 0 0 [.ref (ad 0)] (wM ad cI T N) (fun z (_ : Unit) => z = vLe T) (fun _ => wM ad cI (tLe T) N) := by
  refine MI.of RX1 (by decide) rfl (Nat.le_of_ble_eq_true rfl) [(0, .ref (ad 0))] rfl ?_
  intro p e s m args below meth c A Q E ret ls h hl
  refine z_aload_n E dX1_learn_0 hl 0 rfl ?_
  refine gM_ex (ex := T.1) E h dX1_learn_1 ?_
  have b1 := hT.1
  refine z_iconst E dX1_learn_4 ?_
  refine z_icmp_ne E 11 dX1_learn_5 (by decide) (by omega) (fun c1 => ?_) (fun c1 => ?_)
  · have c1 : (T.1 : Int) ≠ (2 : Int) := c1
    refine z_iconst E dX1_learn_11 ?_
    refine z_istore_n E [(0, .ref (ad 0)), (1, .int (zI 0))] dX1_learn_12 hl (by decide) [1, 0] rfl (fun ls hl => ?_)
    rw [show T = (T.1, T.2.1, T.2.2.1, cp T.2.2.2.1 T.1 0, cp T.2.2.2.2 T.1 0) by rw [cp_0, cp_0]] at h
    have loop13 : ∀ (n13 : Nat) (i : Int) (H : Heap) (locs : List Loc) (ls : Array Slot), (6 - i) < (n13 : Int) → (0 ≤ i ∧ i ≤ 6) → ZH D A s.heap (wM ad cI (T.1, T.2.1, T.2.2.1, cp T.2.2.2.1 T.1 i, cp T.2.2.2.2 T.1 i) N) H locs → lv_has ls 2 [(0, .ref (ad 0)), (1, .int (zI i))] → W p l e ({ frames := 0, cells := 0, slots := 0, locals := 0 } : Room) s m args below meth c H locs 0 0 Q (F0 m 13 ls []) := by
      intro n13
      induction n13 with
      | zero =>
        intro i H locs ls hm13 hi h hl
        exfalso; omega
      | succ n13 ih13 =>
        intro i H locs ls hm13 hi h hl
        refine z_iload_n E dX1_learn_13 hl 1 rfl ?_
        refine z_bipush E dX1_learn_14 (by decide +kernel) ?_
        refine z_icmp_ge E 71 dX1_learn_16 (by decide) (by omega) (fun c2 => ?_) (fun c2 => ?_)
        · have c2 : (6 : Int) ≤ (i : Int) := c2
          refine z_aload_n E dX1_learn_71 hl 0 rfl ?_
          refine gM_il E h dX1_learn_72 ?_
          refine z_aload_n E dX1_learn_75 hl 0 rfl ?_
          refine gM_ex (ex := T.1) E h dX1_learn_76 ?_
          have b2 := hT.1
          refine z_aload_n E dX1_learn_79 hl 0 rfl ?_
          refine gM_il E h dX1_learn_80 ?_
          refine z_iconst E dX1_learn_83 ?_
          refine lM_il E h (by omega) dX1_learn_84 (fun x1 ex1 => ?_)
          have ex1 : x1 = T.2.1 2 := ex1
          have b3 := hT.2.1 2
          refine sM_il E h (by omega) dX1_learn_85 (fun H locs h => ?_)
          have h : ZH D A s.heap (wM ad cI (T.1, up T.2.1 T.1 x1, T.2.2.1, cp T.2.2.2.1 T.1 i, cp T.2.2.2.2 T.1 i) N) H locs := h
          refine z_aload_n E dX1_learn_86 hl 0 rfl ?_
          refine gM_ol E h dX1_learn_87 ?_
          refine z_aload_n E dX1_learn_90 hl 0 rfl ?_
          refine gM_ex (ex := T.1) E h dX1_learn_91 ?_
          have b4 := hT.1
          refine z_aload_n E dX1_learn_94 hl 0 rfl ?_
          refine gM_ol E h dX1_learn_95 ?_
          refine z_iconst E dX1_learn_98 ?_
          refine lM_ol E h (by omega) dX1_learn_99 (fun x2 ex2 => ?_)
          have ex2 : x2 = T.2.2.1 2 := ex2
          have b5 := hT.2.2.1 2
          refine sM_ol E h (by omega) dX1_learn_100 (fun H locs h => ?_)
          have h : ZH D A s.heap (wM ad cI (T.1, up T.2.1 T.1 x1, up T.2.2.1 T.1 x2, cp T.2.2.2.1 T.1 i, cp T.2.2.2.2 T.1 i) N) H locs := h
          refine z_aload_n E dX1_learn_101 hl 0 rfl ?_
          refine z_aload_n E dX1_learn_102 hl 0 rfl ?_
          refine gM_ex (ex := T.1) E h dX1_learn_103 ?_
          have b6 := hT.1
          refine z_iconst E dX1_learn_106 ?_
          refine z_iadd E dX1_learn_107 ?_
          refine pM_ex E h dX1_learn_108 (fun H locs h => ?_)
          have h : ZH D A s.heap (wM ad cI (T.1 + 1, up T.2.1 T.1 x1, up T.2.2.1 T.1 x2, cp T.2.2.2.1 T.1 i, cp T.2.2.2.2 T.1 i) N) H locs := h
          refine z_aload_n E dX1_learn_111 hl 0 rfl ?_
          refine gM_ex (ex := T.1 + 1) E h dX1_learn_112 ?_
          have eT : tLe T = (T.1 + 1, up T.2.1 T.1 x1, up T.2.2.1 T.1 x2, cp T.2.2.2.1 T.1 i, cp T.2.2.2.2 T.1 i) := by unfold tLe; rw [if_neg (by omega), ex1, ex2, show i = 6 by omega]
          rw [← eT] at h
          exact ret () dX1_learn_115 rfl (by unfold vLe; rw [if_neg (by omega)]) h
        · have c2 : (i : Int) < (6 : Int) := c2
          refine z_aload_n E dX1_learn_19 hl 0 rfl ?_
          refine gM_iL E h dX1_learn_20 ?_
          refine z_aload_n E dX1_learn_23 hl 0 rfl ?_
          refine gM_ex (ex := T.1) E h dX1_learn_24 ?_
          have b2 := hT.1
          refine z_bipush E dX1_learn_27 (by decide +kernel) ?_
          refine z_imul E dX1_learn_29 ?_
          refine z_iload_n E dX1_learn_30 hl 1 rfl ?_
          refine z_iadd E dX1_learn_31 ?_
          refine z_aload_n E dX1_learn_32 hl 0 rfl ?_
          refine gM_iL E h dX1_learn_33 ?_
          refine z_bipush E dX1_learn_36 (by decide +kernel) ?_
          refine z_iload_n E dX1_learn_38 hl 1 rfl ?_
          refine z_iadd E dX1_learn_39 ?_
          refine lM_iL E h (by omega) dX1_learn_40 (fun x1 ex1 => ?_)
          have ex1 : x1 = (cp T.2.2.2.1 T.1 i) (12 + i) := ex1
          refine sM_iL E h (by omega) dX1_learn_41 (fun H locs h => ?_)
          have h : ZH D A s.heap (wM ad cI (T.1, T.2.1, T.2.2.1, up (cp T.2.2.2.1 T.1 i) ((T.1 * 6) + i) x1, cp T.2.2.2.2 T.1 i) N) H locs := h
          refine z_aload_n E dX1_learn_42 hl 0 rfl ?_
          refine gM_oL E h dX1_learn_43 ?_
          refine z_aload_n E dX1_learn_46 hl 0 rfl ?_
          refine gM_ex (ex := T.1) E h dX1_learn_47 ?_
          have b3 := hT.1
          refine z_bipush E dX1_learn_50 (by decide +kernel) ?_
          refine z_imul E dX1_learn_52 ?_
          refine z_iload_n E dX1_learn_53 hl 1 rfl ?_
          refine z_iadd E dX1_learn_54 ?_
          refine z_aload_n E dX1_learn_55 hl 0 rfl ?_
          refine gM_oL E h dX1_learn_56 ?_
          refine z_bipush E dX1_learn_59 (by decide +kernel) ?_
          refine z_iload_n E dX1_learn_61 hl 1 rfl ?_
          refine z_iadd E dX1_learn_62 ?_
          refine lM_oL E h (by omega) dX1_learn_63 (fun x2 ex2 => ?_)
          have ex2 : x2 = (cp T.2.2.2.2 T.1 i) (12 + i) := ex2
          refine sM_oL E h (by omega) dX1_learn_64 (fun H locs h => ?_)
          have h : ZH D A s.heap (wM ad cI (T.1, T.2.1, T.2.2.1, up (cp T.2.2.2.1 T.1 i) ((T.1 * 6) + i) x1, up (cp T.2.2.2.2 T.1 i) ((T.1 * 6) + i) x2) N) H locs := h
          refine z_iinc E [(0, .ref (ad 0)), (1, .int (zI (i + 1)))] dX1_learn_65 hl 1 rfl (by decide) [1, 0] rfl (fun ls hl => ?_)
          refine z_goto E 13 dX1_learn_68 (by decide) ?_
          rw [cp_s (by omega) (by omega) ex1, cp_s (by omega) (by omega) ex2] at h
          exact ih13 (i + 1) _ _ _ (by omega) (by omega) h (lv_sub hl [0, 1] rfl)
    exact loop13 10 0 _ _ _ (by omega) (by omega) h (lv_sub hl [0, 1] rfl)
  · have c1 : (T.1 : Int) = (2 : Int) := c1
    refine z_bipush E dX1_learn_8 (by decide +kernel) ?_
    have eT : tLe T = T := by unfold tLe; rw [if_pos (by omega)]
    rw [← eT] at h
    exact ret () dX1_learn_10 rfl (by unfold vLe; rw [if_pos (by omega)]) h
set_option maxHeartbeats 4000000 in
set_option maxRecDepth 100000 in
theorem mM_forget (l : Launch) (D : va_G) (ad : Nat → Nat) (cI : ClassId) (T : TT) (N : NN) (hT : TOk T) : MI l D [(cI, .int)] yX1_forget cX1_forget 1 .int 0 0 [.ref (ad 0)] (wM ad cI T N) (fun z (_ : Unit) => z = vFo T) (fun _ => wM ad cI (tFo T) N) := by
  refine MI.of RX1 (by decide) rfl (Nat.le_of_ble_eq_true rfl) [(0, .ref (ad 0))] rfl ?_
  intro p e s m args below meth c A Q E ret ls h hl
  refine z_aload_n E dX1_forget_0 hl 0 rfl ?_
  refine gM_ex (ex := T.1) E h dX1_forget_1 ?_
  have b1 := hT.1
  refine z_if_ne E 10 dX1_forget_4 (by decide) (by omega) (fun c1 => ?_) (fun c1 => ?_)
  · have c1 : (T.1 : Int) ≠ (0 : Int) := c1
    refine z_aload_n E dX1_forget_10 hl 0 rfl ?_
    refine z_aload_n E dX1_forget_11 hl 0 rfl ?_
    refine gM_ex (ex := T.1) E h dX1_forget_12 ?_
    have b2 := hT.1
    refine z_iconst E dX1_forget_15 ?_
    refine z_isub E dX1_forget_16 ?_
    refine pM_ex E h dX1_forget_17 (fun H locs h => ?_)
    have h : ZH D A s.heap (wM ad cI (T.1 - 1, T.2.1, T.2.2.1, T.2.2.2.1, T.2.2.2.2) N) H locs := h
    refine z_aload_n E dX1_forget_20 hl 0 rfl ?_
    refine gM_ex (ex := T.1 - 1) E h dX1_forget_21 ?_
    have eT : tFo T = (T.1 - 1, T.2.1, T.2.2.1, T.2.2.2.1, T.2.2.2.2) := by unfold tFo; rw [if_neg (by omega)]
    rw [← eT] at h
    exact ret () dX1_forget_24 rfl (by unfold vFo; rw [if_neg (by omega)]) h
  · have c1 : (T.1 : Int) = (0 : Int) := c1
    refine z_bipush E dX1_forget_7 (by decide +kernel) ?_
    have eT : tFo T = T := by unfold tFo; rw [if_pos (by omega)]
    rw [← eT] at h
    exact ret () dX1_forget_9 rfl (by unfold vFo; rw [if_pos (by omega)]) h
end
section
set_option maxHeartbeats 4000000 in
set_option maxRecDepth 100000 in
theorem mX_init (l : Launch) (D : va_G) (h0 sz : Nat) : Met l yX0_init (ws_ yX0_init cX0_init 1 none) ({ frames := 1, cells := 8, slots := 5635, locals := 12 }) (va_Pc [.ref h0] (fun U => U.heap.size = sz ∧ va_P D vwCl [(h0, .inr (0, [.int (zI 0), .null, .null, .null, .null, .null, .int (zI 0), .int (zI 0), .null, .int (zI 0), .int (zI 0), .null, .int (zI 0), .null]))] U.heap ∧ va_K D vwCl [] U ∧ va_D (fun _ => True) [(h0, .inr (0, [.int (zI 0), .null, .null, .null, .null, .null, .int (zI 0), .int (zI 0), .null, .int (zI 0), .int (zI 0), .null, .int (zI 0), .null]))])) (va_Qv (fun u : (Nat → Nat) × ClassId × ClassId => u.1 0 = h0) (fun u t => va_P D vwCl (wX u.1 u.2.1 u.2.2 (0, (fun _ => 0), (fun _ => 0), (fun _ => 0), (fun _ => 0)) ((fun _ => 0), 0, 0, (fun _ => 0), -1) (0, (fun _ => 0), 0, (fun _ => 0))) t.heap ∧ va_K D vwCl [(u.2.1, .int), (u.2.2, .byte)] t ∧ va_D (va_A [(h0, .inr (0, [.int (zI 0), .null, .null, .null, .null, .null, .int (zI 0), .int (zI 0), .null, .int (zI 0), .int (zI 0), .null, .int (zI 0), .null]))] sz) (wX u.1 u.2.1 u.2.2 (0, (fun _ => 0), (fun _ => 0), (fun _ => 0), (fun _ => 0)) ((fun _ => 0), 0, 0, (fun _ => 0), -1) (0, (fun _ => 0), 0, (fun _ => 0)))) (va_A [(h0, .inr (0, [.int (zI 0), .null, .null, .null, .null, .null, .int (zI 0), .int (zI 0), .null, .int (zI 0), .int (zI 0), .null, .int (zI 0), .null]))] sz)) 8 5635 (va_A [(h0, .inr (0, [.int (zI 0), .null, .null, .null, .null, .null, .int (zI 0), .int (zI 0), .null, .int (zI 0), .int (zI 0), .null, .int (zI 0), .null]))] sz) := by
  refine Met.ofW (cc := cX0_init) (maxL := 1) (ret := none) (by decide) rfl ?_
  intro p e s m args below meth c s₁ B hml hv
  obtain ⟨rfl, hsz, hP, hK, hD0⟩ := hv
  have hx := B.exec
  have hb := B.bytes
  have hr := B.returns
  have hts := atoms_spec (ws := ws_ yX0_init cX0_init 1 none) B.pre
  have hts : ∀ w ∈ lw_all, w.before _ s = true := fun w h => hts w (List.mem_cons_of_mem _ h)
  have hown : s.vm.findClass RX0 = some m.cls := findClass_of_methodNamed B.named
  have hlocks := B.notSynchronized
  have hin : meth.name = "<init>" := (name_of_methodNamed B.named B.method).1
  subst hsz
  have hD := hD0.self (sz := s.heap.size)
  generalize hAe : va_A [(h0, .inr (0, [.int (zI 0), .null, .null, .null, .null, .null, .int (zI 0), .int (zI 0), .null, .int (zI 0), .int (zI 0), .null, .int (zI 0), .null]))] s.heap.size = A at hD ⊢
  have hA : ∀ q : Nat, s.heap.size ≤ q → A q := fun q h => by rw [← hAe]; exact Or.inr h
  have hS : va_S A s.heap s.heap [] := va_S.rf
  have hP : va_P D vwCl [(h0, .inr (0, [.int (zI 0), .null, .null, .null, .null, .null, .int (zI 0), .int (zI 0), .null, .int (zI 0), .int (zI 0), .null, .int (zI 0), .null]))] s.heap := hP
  have hl := lv_entry ([.ref h0]) (n := 1) (Nat.le_of_ble_eq_true rfl)
  rw [lg_entry_eq]
  generalize (lg_sl ([.ref h0]) ++ List.replicate (1 - (lg_sl ([.ref h0])).length) Slot.unset).toArray = ls at hl ⊢
  have hl : lv_has ls 1 [(0, .ref h0)] := hl
  refine lv_aload_n hx hb dX0_init_0 rfl (lv_at hl 0 rfl) ?_
  refine W.objInit hx hb hown (hts _ q40) (hts _ q41) (hts _ q42) rfl (by rw [hml]; exact hl.1) rfl dX0_init_1 (Nat.le_of_ble_eq_true rfl) (Nat.le_of_ble_eq_true rfl) ?_
  refine W.eq (g2 := F0 m 4 ls []) rfl ?_
  refine lv_aload_n hx hb dX0_init_4 rfl (lv_at hl 0 rfl) ?_
  refine lv_iconst (v := zI 3) hx hb dX0_init_5 (by decide +kernel) ?_
  refine va_newa (atype := .int) (N' := 3) (a0 := (3, .inl (ar (fun _ => 0)))) hx hb (hts _ q86) (ty := .int) rfl hK hP hD hS hA (fun cA => by rw [ar_0]; rfl) (by decide +kernel) (by decide +kernel) (by decide +kernel) (by decide) (by decide) dX0_init_6 (fun q1 c1 H hK hP hD hS => ?_)
  have hK : va_K D vwCl [(c1, .int)] s := hK
  have hP : va_P D vwCl [(h0, .inr (0, [.int (zI 0), .null, .null, .null, .null, .null, .int (zI 0), .int (zI 0), .null, .int (zI 0), .int (zI 0), .null, .int (zI 0), .null])), (q1, .inl (c1, 3, .inl (ar (fun _ => 0))))] H := hP
  have hD : va_D A [(h0, .inr (0, [.int (zI 0), .null, .null, .null, .null, .null, .int (zI 0), .int (zI 0), .null, .int (zI 0), .int (zI 0), .null, .int (zI 0), .null])), (q1, .inl (c1, 3, .inl (ar (fun _ => 0))))] := hD
  refine va_putF (D := D) (ci := 0) (v := .ref q1) (ty := .array .int) (C := RX0) (T := TX0) (N := 14) hx hb hts in_X0 tyX0 tyX0_ok nmX0 hown hK hP hD hS 0 rfl rfl 1 (by decide) (hts _ q44) (fun _ h9 => h9) rfl hin rfl (by decide +kernel) rfl rfl (Nat.le_of_ble_eq_true rfl) dX0_init_8 (fun H locs hP hD hS => ?_)
  have hP : va_P D vwCl [(h0, .inr (0, [.int (zI 0), .ref q1, .null, .null, .null, .null, .int (zI 0), .int (zI 0), .null, .int (zI 0), .int (zI 0), .null, .int (zI 0), .null])), (q1, .inl (c1, 3, .inl (ar (fun _ => 0))))] H := hP
  have hD : va_D A [(h0, .inr (0, [.int (zI 0), .ref q1, .null, .null, .null, .null, .int (zI 0), .int (zI 0), .null, .int (zI 0), .int (zI 0), .null, .int (zI 0), .null])), (q1, .inl (c1, 3, .inl (ar (fun _ => 0))))] := hD
  refine lv_aload_n hx hb dX0_init_11 rfl (lv_at hl 0 rfl) ?_
  refine lv_iconst (v := zI 3) hx hb dX0_init_12 (by decide +kernel) ?_
  refine va_newa (atype := .int) (N' := 3) (a0 := (3, .inl (ar (fun _ => 0)))) hx hb (hts _ q86) (ty := .int) rfl hK hP hD hS hA (fun cA => by rw [ar_0]; rfl) (by decide +kernel) (by decide +kernel) (by decide +kernel) (by decide) (by decide) dX0_init_13 (fun q2 c2 H hK hP hD hS => ?_)
  have hK : va_K D vwCl [(c1, .int), (c2, .int)] s := hK
  have hP : va_P D vwCl [(h0, .inr (0, [.int (zI 0), .ref q1, .null, .null, .null, .null, .int (zI 0), .int (zI 0), .null, .int (zI 0), .int (zI 0), .null, .int (zI 0), .null])), (q1, .inl (c1, 3, .inl (ar (fun _ => 0)))), (q2, .inl (c2, 3, .inl (ar (fun _ => 0))))] H := hP
  have hD : va_D A [(h0, .inr (0, [.int (zI 0), .ref q1, .null, .null, .null, .null, .int (zI 0), .int (zI 0), .null, .int (zI 0), .int (zI 0), .null, .int (zI 0), .null])), (q1, .inl (c1, 3, .inl (ar (fun _ => 0)))), (q2, .inl (c2, 3, .inl (ar (fun _ => 0))))] := hD
  refine va_putF (D := D) (ci := 0) (v := .ref q2) (ty := .array .int) (C := RX0) (T := TX0) (N := 14) hx hb hts in_X0 tyX0 tyX0_ok nmX0 hown hK hP hD hS 0 rfl rfl 2 (by decide) (hts _ q45) (fun _ h9 => h9) rfl hin rfl (by decide +kernel) rfl rfl (Nat.le_of_ble_eq_true rfl) dX0_init_15 (fun H locs hP hD hS => ?_)
  have hP : va_P D vwCl [(h0, .inr (0, [.int (zI 0), .ref q1, .ref q2, .null, .null, .null, .int (zI 0), .int (zI 0), .null, .int (zI 0), .int (zI 0), .null, .int (zI 0), .null])), (q1, .inl (c1, 3, .inl (ar (fun _ => 0)))), (q2, .inl (c2, 3, .inl (ar (fun _ => 0))))] H := hP
  have hD : va_D A [(h0, .inr (0, [.int (zI 0), .ref q1, .ref q2, .null, .null, .null, .int (zI 0), .int (zI 0), .null, .int (zI 0), .int (zI 0), .null, .int (zI 0), .null])), (q1, .inl (c1, 3, .inl (ar (fun _ => 0)))), (q2, .inl (c2, 3, .inl (ar (fun _ => 0))))] := hD
  refine lv_aload_n hx hb dX0_init_18 rfl (lv_at hl 0 rfl) ?_
  refine lv_bipush (v := zI 18) hx hb dX0_init_19 (by decide +kernel) ?_
  refine va_newa (atype := .int) (N' := 18) (a0 := (18, .inl (ar (fun _ => 0)))) hx hb (hts _ q86) (ty := .int) rfl hK hP hD hS hA (fun cA => by rw [ar_0]; rfl) (by decide +kernel) (by decide +kernel) (by decide +kernel) (by decide) (by decide) dX0_init_21 (fun q3 c3 H hK hP hD hS => ?_)
  have hK : va_K D vwCl [(c1, .int), (c2, .int), (c3, .int)] s := hK
  have hP : va_P D vwCl [(h0, .inr (0, [.int (zI 0), .ref q1, .ref q2, .null, .null, .null, .int (zI 0), .int (zI 0), .null, .int (zI 0), .int (zI 0), .null, .int (zI 0), .null])), (q1, .inl (c1, 3, .inl (ar (fun _ => 0)))), (q2, .inl (c2, 3, .inl (ar (fun _ => 0)))), (q3, .inl (c3, 18, .inl (ar (fun _ => 0))))] H := hP
  have hD : va_D A [(h0, .inr (0, [.int (zI 0), .ref q1, .ref q2, .null, .null, .null, .int (zI 0), .int (zI 0), .null, .int (zI 0), .int (zI 0), .null, .int (zI 0), .null])), (q1, .inl (c1, 3, .inl (ar (fun _ => 0)))), (q2, .inl (c2, 3, .inl (ar (fun _ => 0)))), (q3, .inl (c3, 18, .inl (ar (fun _ => 0))))] := hD
  refine va_putF (D := D) (ci := 0) (v := .ref q3) (ty := .array .int) (C := RX0) (T := TX0) (N := 14) hx hb hts in_X0 tyX0 tyX0_ok nmX0 hown hK hP hD hS 0 rfl rfl 3 (by decide) (hts _ q46) (fun _ h9 => h9) rfl hin rfl (by decide +kernel) rfl rfl (Nat.le_of_ble_eq_true rfl) dX0_init_23 (fun H locs hP hD hS => ?_)
  have hP : va_P D vwCl [(h0, .inr (0, [.int (zI 0), .ref q1, .ref q2, .ref q3, .null, .null, .int (zI 0), .int (zI 0), .null, .int (zI 0), .int (zI 0), .null, .int (zI 0), .null])), (q1, .inl (c1, 3, .inl (ar (fun _ => 0)))), (q2, .inl (c2, 3, .inl (ar (fun _ => 0)))), (q3, .inl (c3, 18, .inl (ar (fun _ => 0))))] H := hP
  have hD : va_D A [(h0, .inr (0, [.int (zI 0), .ref q1, .ref q2, .ref q3, .null, .null, .int (zI 0), .int (zI 0), .null, .int (zI 0), .int (zI 0), .null, .int (zI 0), .null])), (q1, .inl (c1, 3, .inl (ar (fun _ => 0)))), (q2, .inl (c2, 3, .inl (ar (fun _ => 0)))), (q3, .inl (c3, 18, .inl (ar (fun _ => 0))))] := hD
  refine lv_aload_n hx hb dX0_init_26 rfl (lv_at hl 0 rfl) ?_
  refine lv_bipush (v := zI 18) hx hb dX0_init_27 (by decide +kernel) ?_
  refine va_newa (atype := .int) (N' := 18) (a0 := (18, .inl (ar (fun _ => 0)))) hx hb (hts _ q86) (ty := .int) rfl hK hP hD hS hA (fun cA => by rw [ar_0]; rfl) (by decide +kernel) (by decide +kernel) (by decide +kernel) (by decide) (by decide) dX0_init_29 (fun q4 c4 H hK hP hD hS => ?_)
  have hK : va_K D vwCl [(c1, .int), (c2, .int), (c3, .int), (c4, .int)] s := hK
  have hP : va_P D vwCl [(h0, .inr (0, [.int (zI 0), .ref q1, .ref q2, .ref q3, .null, .null, .int (zI 0), .int (zI 0), .null, .int (zI 0), .int (zI 0), .null, .int (zI 0), .null])), (q1, .inl (c1, 3, .inl (ar (fun _ => 0)))), (q2, .inl (c2, 3, .inl (ar (fun _ => 0)))), (q3, .inl (c3, 18, .inl (ar (fun _ => 0)))), (q4, .inl (c4, 18, .inl (ar (fun _ => 0))))] H := hP
  have hD : va_D A [(h0, .inr (0, [.int (zI 0), .ref q1, .ref q2, .ref q3, .null, .null, .int (zI 0), .int (zI 0), .null, .int (zI 0), .int (zI 0), .null, .int (zI 0), .null])), (q1, .inl (c1, 3, .inl (ar (fun _ => 0)))), (q2, .inl (c2, 3, .inl (ar (fun _ => 0)))), (q3, .inl (c3, 18, .inl (ar (fun _ => 0)))), (q4, .inl (c4, 18, .inl (ar (fun _ => 0))))] := hD
  refine va_putF (D := D) (ci := 0) (v := .ref q4) (ty := .array .int) (C := RX0) (T := TX0) (N := 14) hx hb hts in_X0 tyX0 tyX0_ok nmX0 hown hK hP hD hS 0 rfl rfl 4 (by decide) (hts _ q47) (fun _ h9 => h9) rfl hin rfl (by decide +kernel) rfl rfl (Nat.le_of_ble_eq_true rfl) dX0_init_31 (fun H locs hP hD hS => ?_)
  have hP : va_P D vwCl [(h0, .inr (0, [.int (zI 0), .ref q1, .ref q2, .ref q3, .ref q4, .null, .int (zI 0), .int (zI 0), .null, .int (zI 0), .int (zI 0), .null, .int (zI 0), .null])), (q1, .inl (c1, 3, .inl (ar (fun _ => 0)))), (q2, .inl (c2, 3, .inl (ar (fun _ => 0)))), (q3, .inl (c3, 18, .inl (ar (fun _ => 0)))), (q4, .inl (c4, 18, .inl (ar (fun _ => 0))))] H := hP
  have hD : va_D A [(h0, .inr (0, [.int (zI 0), .ref q1, .ref q2, .ref q3, .ref q4, .null, .int (zI 0), .int (zI 0), .null, .int (zI 0), .int (zI 0), .null, .int (zI 0), .null])), (q1, .inl (c1, 3, .inl (ar (fun _ => 0)))), (q2, .inl (c2, 3, .inl (ar (fun _ => 0)))), (q3, .inl (c3, 18, .inl (ar (fun _ => 0)))), (q4, .inl (c4, 18, .inl (ar (fun _ => 0))))] := hD
  refine lv_aload_n hx hb dX0_init_34 rfl (lv_at hl 0 rfl) ?_
  refine lv_sipush (v := zI 4200) hx hb dX0_init_35 (by decide +kernel) ?_
  refine va_newa (atype := .byte) (N' := 4200) (a0 := (4200, .inl (ar (fun _ => 0)))) hx hb (hts _ q87) (ty := .byte) rfl hK hP hD hS hA (fun cA => by rw [ar_0]; rfl) (by decide +kernel) (by decide +kernel) (by decide +kernel) (by decide) (by decide) dX0_init_38 (fun q5 c5 H hK hP hD hS => ?_)
  have hK : va_K D vwCl [(c1, .int), (c2, .int), (c3, .int), (c4, .int), (c5, .byte)] s := hK
  have hP : va_P D vwCl [(h0, .inr (0, [.int (zI 0), .ref q1, .ref q2, .ref q3, .ref q4, .null, .int (zI 0), .int (zI 0), .null, .int (zI 0), .int (zI 0), .null, .int (zI 0), .null])), (q1, .inl (c1, 3, .inl (ar (fun _ => 0)))), (q2, .inl (c2, 3, .inl (ar (fun _ => 0)))), (q3, .inl (c3, 18, .inl (ar (fun _ => 0)))), (q4, .inl (c4, 18, .inl (ar (fun _ => 0)))), (q5, .inl (c5, 4200, .inl (ar (fun _ => 0))))] H := hP
  have hD : va_D A [(h0, .inr (0, [.int (zI 0), .ref q1, .ref q2, .ref q3, .ref q4, .null, .int (zI 0), .int (zI 0), .null, .int (zI 0), .int (zI 0), .null, .int (zI 0), .null])), (q1, .inl (c1, 3, .inl (ar (fun _ => 0)))), (q2, .inl (c2, 3, .inl (ar (fun _ => 0)))), (q3, .inl (c3, 18, .inl (ar (fun _ => 0)))), (q4, .inl (c4, 18, .inl (ar (fun _ => 0)))), (q5, .inl (c5, 4200, .inl (ar (fun _ => 0))))] := hD
  refine va_putF (D := D) (ci := 0) (v := .ref q5) (ty := .array .byte) (C := RX0) (T := TX0) (N := 14) hx hb hts in_X0 tyX0 tyX0_ok nmX0 hown hK hP hD hS 0 rfl rfl 5 (by decide) (hts _ q48) (fun _ h9 => h9) rfl hin rfl (by decide +kernel) rfl rfl (Nat.le_of_ble_eq_true rfl) dX0_init_40 (fun H locs hP hD hS => ?_)
  have hP : va_P D vwCl [(h0, .inr (0, [.int (zI 0), .ref q1, .ref q2, .ref q3, .ref q4, .ref q5, .int (zI 0), .int (zI 0), .null, .int (zI 0), .int (zI 0), .null, .int (zI 0), .null])), (q1, .inl (c1, 3, .inl (ar (fun _ => 0)))), (q2, .inl (c2, 3, .inl (ar (fun _ => 0)))), (q3, .inl (c3, 18, .inl (ar (fun _ => 0)))), (q4, .inl (c4, 18, .inl (ar (fun _ => 0)))), (q5, .inl (c5, 4200, .inl (ar (fun _ => 0))))] H := hP
  have hD : va_D A [(h0, .inr (0, [.int (zI 0), .ref q1, .ref q2, .ref q3, .ref q4, .ref q5, .int (zI 0), .int (zI 0), .null, .int (zI 0), .int (zI 0), .null, .int (zI 0), .null])), (q1, .inl (c1, 3, .inl (ar (fun _ => 0)))), (q2, .inl (c2, 3, .inl (ar (fun _ => 0)))), (q3, .inl (c3, 18, .inl (ar (fun _ => 0)))), (q4, .inl (c4, 18, .inl (ar (fun _ => 0)))), (q5, .inl (c5, 4200, .inl (ar (fun _ => 0))))] := hD
  refine lv_aload_n hx hb dX0_init_43 rfl (lv_at hl 0 rfl) ?_
  refine lv_sipush (v := zI 1372) hx hb dX0_init_44 (by decide +kernel) ?_
  refine va_newa (atype := .int) (N' := 1372) (a0 := (1372, .inl (ar (fun _ => 0)))) hx hb (hts _ q86) (ty := .int) rfl hK hP hD hS hA (fun cA => by rw [ar_0]; rfl) (by decide +kernel) (by decide +kernel) (by decide +kernel) (by decide) (by decide) dX0_init_47 (fun q6 c6 H hK hP hD hS => ?_)
  have hK : va_K D vwCl [(c1, .int), (c2, .int), (c3, .int), (c4, .int), (c5, .byte), (c6, .int)] s := hK
  have hP : va_P D vwCl [(h0, .inr (0, [.int (zI 0), .ref q1, .ref q2, .ref q3, .ref q4, .ref q5, .int (zI 0), .int (zI 0), .null, .int (zI 0), .int (zI 0), .null, .int (zI 0), .null])), (q1, .inl (c1, 3, .inl (ar (fun _ => 0)))), (q2, .inl (c2, 3, .inl (ar (fun _ => 0)))), (q3, .inl (c3, 18, .inl (ar (fun _ => 0)))), (q4, .inl (c4, 18, .inl (ar (fun _ => 0)))), (q5, .inl (c5, 4200, .inl (ar (fun _ => 0)))), (q6, .inl (c6, 1372, .inl (ar (fun _ => 0))))] H := hP
  have hD : va_D A [(h0, .inr (0, [.int (zI 0), .ref q1, .ref q2, .ref q3, .ref q4, .ref q5, .int (zI 0), .int (zI 0), .null, .int (zI 0), .int (zI 0), .null, .int (zI 0), .null])), (q1, .inl (c1, 3, .inl (ar (fun _ => 0)))), (q2, .inl (c2, 3, .inl (ar (fun _ => 0)))), (q3, .inl (c3, 18, .inl (ar (fun _ => 0)))), (q4, .inl (c4, 18, .inl (ar (fun _ => 0)))), (q5, .inl (c5, 4200, .inl (ar (fun _ => 0)))), (q6, .inl (c6, 1372, .inl (ar (fun _ => 0))))] := hD
  refine va_putF (D := D) (ci := 0) (v := .ref q6) (ty := .array .int) (C := RX0) (T := TX0) (N := 14) hx hb hts in_X0 tyX0 tyX0_ok nmX0 hown hK hP hD hS 0 rfl rfl 8 (by decide) (hts _ q51) (fun _ h9 => h9) rfl hin rfl (by decide +kernel) rfl rfl (Nat.le_of_ble_eq_true rfl) dX0_init_49 (fun H locs hP hD hS => ?_)
  have hP : va_P D vwCl [(h0, .inr (0, [.int (zI 0), .ref q1, .ref q2, .ref q3, .ref q4, .ref q5, .int (zI 0), .int (zI 0), .ref q6, .int (zI 0), .int (zI 0), .null, .int (zI 0), .null])), (q1, .inl (c1, 3, .inl (ar (fun _ => 0)))), (q2, .inl (c2, 3, .inl (ar (fun _ => 0)))), (q3, .inl (c3, 18, .inl (ar (fun _ => 0)))), (q4, .inl (c4, 18, .inl (ar (fun _ => 0)))), (q5, .inl (c5, 4200, .inl (ar (fun _ => 0)))), (q6, .inl (c6, 1372, .inl (ar (fun _ => 0))))] H := hP
  have hD : va_D A [(h0, .inr (0, [.int (zI 0), .ref q1, .ref q2, .ref q3, .ref q4, .ref q5, .int (zI 0), .int (zI 0), .ref q6, .int (zI 0), .int (zI 0), .null, .int (zI 0), .null])), (q1, .inl (c1, 3, .inl (ar (fun _ => 0)))), (q2, .inl (c2, 3, .inl (ar (fun _ => 0)))), (q3, .inl (c3, 18, .inl (ar (fun _ => 0)))), (q4, .inl (c4, 18, .inl (ar (fun _ => 0)))), (q5, .inl (c5, 4200, .inl (ar (fun _ => 0)))), (q6, .inl (c6, 1372, .inl (ar (fun _ => 0))))] := hD
  refine lv_aload_n hx hb dX0_init_52 rfl (lv_at hl 0 rfl) ?_
  refine lv_iconst (v := zI 3) hx hb dX0_init_53 (by decide +kernel) ?_
  refine va_newa (atype := .int) (N' := 3) (a0 := (3, .inl (ar (fun _ => 0)))) hx hb (hts _ q86) (ty := .int) rfl hK hP hD hS hA (fun cA => by rw [ar_0]; rfl) (by decide +kernel) (by decide +kernel) (by decide +kernel) (by decide) (by decide) dX0_init_54 (fun q7 c7 H hK hP hD hS => ?_)
  have hK : va_K D vwCl [(c1, .int), (c2, .int), (c3, .int), (c4, .int), (c5, .byte), (c6, .int), (c7, .int)] s := hK
  have hP : va_P D vwCl [(h0, .inr (0, [.int (zI 0), .ref q1, .ref q2, .ref q3, .ref q4, .ref q5, .int (zI 0), .int (zI 0), .ref q6, .int (zI 0), .int (zI 0), .null, .int (zI 0), .null])), (q1, .inl (c1, 3, .inl (ar (fun _ => 0)))), (q2, .inl (c2, 3, .inl (ar (fun _ => 0)))), (q3, .inl (c3, 18, .inl (ar (fun _ => 0)))), (q4, .inl (c4, 18, .inl (ar (fun _ => 0)))), (q5, .inl (c5, 4200, .inl (ar (fun _ => 0)))), (q6, .inl (c6, 1372, .inl (ar (fun _ => 0)))), (q7, .inl (c7, 3, .inl (ar (fun _ => 0))))] H := hP
  have hD : va_D A [(h0, .inr (0, [.int (zI 0), .ref q1, .ref q2, .ref q3, .ref q4, .ref q5, .int (zI 0), .int (zI 0), .ref q6, .int (zI 0), .int (zI 0), .null, .int (zI 0), .null])), (q1, .inl (c1, 3, .inl (ar (fun _ => 0)))), (q2, .inl (c2, 3, .inl (ar (fun _ => 0)))), (q3, .inl (c3, 18, .inl (ar (fun _ => 0)))), (q4, .inl (c4, 18, .inl (ar (fun _ => 0)))), (q5, .inl (c5, 4200, .inl (ar (fun _ => 0)))), (q6, .inl (c6, 1372, .inl (ar (fun _ => 0)))), (q7, .inl (c7, 3, .inl (ar (fun _ => 0))))] := hD
  refine va_putF (D := D) (ci := 0) (v := .ref q7) (ty := .array .int) (C := RX0) (T := TX0) (N := 14) hx hb hts in_X0 tyX0 tyX0_ok nmX0 hown hK hP hD hS 0 rfl rfl 11 (by decide) (hts _ q54) (fun _ h9 => h9) rfl hin rfl (by decide +kernel) rfl rfl (Nat.le_of_ble_eq_true rfl) dX0_init_56 (fun H locs hP hD hS => ?_)
  have hP : va_P D vwCl [(h0, .inr (0, [.int (zI 0), .ref q1, .ref q2, .ref q3, .ref q4, .ref q5, .int (zI 0), .int (zI 0), .ref q6, .int (zI 0), .int (zI 0), .ref q7, .int (zI 0), .null])), (q1, .inl (c1, 3, .inl (ar (fun _ => 0)))), (q2, .inl (c2, 3, .inl (ar (fun _ => 0)))), (q3, .inl (c3, 18, .inl (ar (fun _ => 0)))), (q4, .inl (c4, 18, .inl (ar (fun _ => 0)))), (q5, .inl (c5, 4200, .inl (ar (fun _ => 0)))), (q6, .inl (c6, 1372, .inl (ar (fun _ => 0)))), (q7, .inl (c7, 3, .inl (ar (fun _ => 0))))] H := hP
  have hD : va_D A [(h0, .inr (0, [.int (zI 0), .ref q1, .ref q2, .ref q3, .ref q4, .ref q5, .int (zI 0), .int (zI 0), .ref q6, .int (zI 0), .int (zI 0), .ref q7, .int (zI 0), .null])), (q1, .inl (c1, 3, .inl (ar (fun _ => 0)))), (q2, .inl (c2, 3, .inl (ar (fun _ => 0)))), (q3, .inl (c3, 18, .inl (ar (fun _ => 0)))), (q4, .inl (c4, 18, .inl (ar (fun _ => 0)))), (q5, .inl (c5, 4200, .inl (ar (fun _ => 0)))), (q6, .inl (c6, 1372, .inl (ar (fun _ => 0)))), (q7, .inl (c7, 3, .inl (ar (fun _ => 0))))] := hD
  refine lv_aload_n hx hb dX0_init_59 rfl (lv_at hl 0 rfl) ?_
  refine lv_bipush (v := zI 18) hx hb dX0_init_60 (by decide +kernel) ?_
  refine va_newa (atype := .int) (N' := 18) (a0 := (18, .inl (ar (fun _ => 0)))) hx hb (hts _ q86) (ty := .int) rfl hK hP hD hS hA (fun cA => by rw [ar_0]; rfl) (by decide +kernel) (by decide +kernel) (by decide +kernel) (by decide) (by decide) dX0_init_62 (fun q8 c8 H hK hP hD hS => ?_)
  have hK : va_K D vwCl [(c1, .int), (c2, .int), (c3, .int), (c4, .int), (c5, .byte), (c6, .int), (c7, .int), (c8, .int)] s := hK
  have hP : va_P D vwCl [(h0, .inr (0, [.int (zI 0), .ref q1, .ref q2, .ref q3, .ref q4, .ref q5, .int (zI 0), .int (zI 0), .ref q6, .int (zI 0), .int (zI 0), .ref q7, .int (zI 0), .null])), (q1, .inl (c1, 3, .inl (ar (fun _ => 0)))), (q2, .inl (c2, 3, .inl (ar (fun _ => 0)))), (q3, .inl (c3, 18, .inl (ar (fun _ => 0)))), (q4, .inl (c4, 18, .inl (ar (fun _ => 0)))), (q5, .inl (c5, 4200, .inl (ar (fun _ => 0)))), (q6, .inl (c6, 1372, .inl (ar (fun _ => 0)))), (q7, .inl (c7, 3, .inl (ar (fun _ => 0)))), (q8, .inl (c8, 18, .inl (ar (fun _ => 0))))] H := hP
  have hD : va_D A [(h0, .inr (0, [.int (zI 0), .ref q1, .ref q2, .ref q3, .ref q4, .ref q5, .int (zI 0), .int (zI 0), .ref q6, .int (zI 0), .int (zI 0), .ref q7, .int (zI 0), .null])), (q1, .inl (c1, 3, .inl (ar (fun _ => 0)))), (q2, .inl (c2, 3, .inl (ar (fun _ => 0)))), (q3, .inl (c3, 18, .inl (ar (fun _ => 0)))), (q4, .inl (c4, 18, .inl (ar (fun _ => 0)))), (q5, .inl (c5, 4200, .inl (ar (fun _ => 0)))), (q6, .inl (c6, 1372, .inl (ar (fun _ => 0)))), (q7, .inl (c7, 3, .inl (ar (fun _ => 0)))), (q8, .inl (c8, 18, .inl (ar (fun _ => 0))))] := hD
  refine va_putF (D := D) (ci := 0) (v := .ref q8) (ty := .array .int) (C := RX0) (T := TX0) (N := 14) hx hb hts in_X0 tyX0 tyX0_ok nmX0 hown hK hP hD hS 0 rfl rfl 13 (by decide) (hts _ q56) (fun _ h9 => h9) rfl hin rfl (by decide +kernel) rfl rfl (Nat.le_of_ble_eq_true rfl) dX0_init_64 (fun H locs hP hD hS => ?_)
  have hP : va_P D vwCl [(h0, .inr (0, [.int (zI 0), .ref q1, .ref q2, .ref q3, .ref q4, .ref q5, .int (zI 0), .int (zI 0), .ref q6, .int (zI 0), .int (zI 0), .ref q7, .int (zI 0), .ref q8])), (q1, .inl (c1, 3, .inl (ar (fun _ => 0)))), (q2, .inl (c2, 3, .inl (ar (fun _ => 0)))), (q3, .inl (c3, 18, .inl (ar (fun _ => 0)))), (q4, .inl (c4, 18, .inl (ar (fun _ => 0)))), (q5, .inl (c5, 4200, .inl (ar (fun _ => 0)))), (q6, .inl (c6, 1372, .inl (ar (fun _ => 0)))), (q7, .inl (c7, 3, .inl (ar (fun _ => 0)))), (q8, .inl (c8, 18, .inl (ar (fun _ => 0))))] H := hP
  have hD : va_D A [(h0, .inr (0, [.int (zI 0), .ref q1, .ref q2, .ref q3, .ref q4, .ref q5, .int (zI 0), .int (zI 0), .ref q6, .int (zI 0), .int (zI 0), .ref q7, .int (zI 0), .ref q8])), (q1, .inl (c1, 3, .inl (ar (fun _ => 0)))), (q2, .inl (c2, 3, .inl (ar (fun _ => 0)))), (q3, .inl (c3, 18, .inl (ar (fun _ => 0)))), (q4, .inl (c4, 18, .inl (ar (fun _ => 0)))), (q5, .inl (c5, 4200, .inl (ar (fun _ => 0)))), (q6, .inl (c6, 1372, .inl (ar (fun _ => 0)))), (q7, .inl (c7, 3, .inl (ar (fun _ => 0)))), (q8, .inl (c8, 18, .inl (ar (fun _ => 0))))] := hD
  refine lv_aload_n hx hb dX0_init_67 rfl (lv_at hl 0 rfl) ?_
  refine lv_iconst (v := zI (-1)) hx hb dX0_init_68 (by decide +kernel) ?_
  refine va_put (D := D) (ci := 0) (v := .int (zI (-1))) (ty := .int) (C := RX0) (T := TX0) (N := 14) hx hb hts in_X0 tyX0 tyX0_ok nmX0 hown hK hP hD hS 0 rfl rfl 9 (by decide) (hts _ q52) (fun _ h9 => h9) rfl (by decide +kernel) rfl rfl (Nat.le_of_ble_eq_true rfl) dX0_init_69 (fun H locs hP hD hS => ?_)
  have hP : va_P D vwCl [(h0, .inr (0, [.int (zI 0), .ref q1, .ref q2, .ref q3, .ref q4, .ref q5, .int (zI 0), .int (zI 0), .ref q6, .int (zI (-1)), .int (zI 0), .ref q7, .int (zI 0), .ref q8])), (q1, .inl (c1, 3, .inl (ar (fun _ => 0)))), (q2, .inl (c2, 3, .inl (ar (fun _ => 0)))), (q3, .inl (c3, 18, .inl (ar (fun _ => 0)))), (q4, .inl (c4, 18, .inl (ar (fun _ => 0)))), (q5, .inl (c5, 4200, .inl (ar (fun _ => 0)))), (q6, .inl (c6, 1372, .inl (ar (fun _ => 0)))), (q7, .inl (c7, 3, .inl (ar (fun _ => 0)))), (q8, .inl (c8, 18, .inl (ar (fun _ => 0))))] H := hP
  have hD : va_D A [(h0, .inr (0, [.int (zI 0), .ref q1, .ref q2, .ref q3, .ref q4, .ref q5, .int (zI 0), .int (zI 0), .ref q6, .int (zI (-1)), .int (zI 0), .ref q7, .int (zI 0), .ref q8])), (q1, .inl (c1, 3, .inl (ar (fun _ => 0)))), (q2, .inl (c2, 3, .inl (ar (fun _ => 0)))), (q3, .inl (c3, 18, .inl (ar (fun _ => 0)))), (q4, .inl (c4, 18, .inl (ar (fun _ => 0)))), (q5, .inl (c5, 4200, .inl (ar (fun _ => 0)))), (q6, .inl (c6, 1372, .inl (ar (fun _ => 0)))), (q7, .inl (c7, 3, .inl (ar (fun _ => 0)))), (q8, .inl (c8, 18, .inl (ar (fun _ => 0))))] := hD
  have e2 : c1 = c2 := Option.some.inj ((hK.2 0 _ rfl).2.symm.trans (hK.2 1 _ rfl).2)
  have e3 : c1 = c3 := Option.some.inj ((hK.2 0 _ rfl).2.symm.trans (hK.2 2 _ rfl).2)
  have e4 : c1 = c4 := Option.some.inj ((hK.2 0 _ rfl).2.symm.trans (hK.2 3 _ rfl).2)
  have e6 : c1 = c6 := Option.some.inj ((hK.2 0 _ rfl).2.symm.trans (hK.2 5 _ rfl).2)
  have e7 : c1 = c7 := Option.some.inj ((hK.2 0 _ rfl).2.symm.trans (hK.2 6 _ rfl).2)
  have e8 : c1 = c8 := Option.some.inj ((hK.2 0 _ rfl).2.symm.trans (hK.2 7 _ rfl).2)
  subst e2
  subst e3
  subst e4
  subst e6
  subst e7
  subst e8
  have hK9 := hK.sub (tys' := [(c1, .int), (c5, .byte)]) [0, 4] rfl
  exact W.vret hx hb hr (fun t ht hW => ⟨⟨((fun k => match k with | 0 => h0 | 1 => q1 | 2 => q2 | 3 => q3 | 4 => q4 | 5 => q5 | 6 => q6 | 7 => q7 | _ => q8), c1, c5), rfl, rfl, by rw [ht]; exact hP, va_K.moved hW.alike hK9, hD⟩, hS.F ht⟩) hS.2.2 dX0_init_72
set_option maxHeartbeats 4000000 in
set_option maxRecDepth 100000 in
theorem mM_init (l : Launch) (D : va_G) (h0 sz : Nat) : Met l yX1_init (ws_ yX1_init cX1_init 1 none) ({ frames := 1, cells := 7, slots := 75, locals := 12 }) (va_Pc [.ref h0] (fun U => U.heap.size = sz ∧ va_P D vwCl [(h0, .inr (1, [.int (zI 0), .null, .null, .null, .null, .null, .null, .int (zI 0), .null]))] U.heap ∧ va_K D vwCl [] U ∧ va_D (fun _ => True) [(h0, .inr (1, [.int (zI 0), .null, .null, .null, .null, .null, .null, .int (zI 0), .null]))])) (va_Qv (fun u : (Nat → Nat) × ClassId => u.1 0 = h0) (fun u t => va_P D vwCl (wM u.1 u.2 (0, (fun _ => 0), (fun _ => 0), (fun _ => 0), (fun _ => 0)) ((fun _ => 0), (fun _ => 0), 0, (fun _ => 0))) t.heap ∧ va_K D vwCl [(u.2, .int)] t ∧ va_D (va_A [(h0, .inr (1, [.int (zI 0), .null, .null, .null, .null, .null, .null, .int (zI 0), .null]))] sz) (wM u.1 u.2 (0, (fun _ => 0), (fun _ => 0), (fun _ => 0), (fun _ => 0)) ((fun _ => 0), (fun _ => 0), 0, (fun _ => 0)))) (va_A [(h0, .inr (1, [.int (zI 0), .null, .null, .null, .null, .null, .null, .int (zI 0), .null]))] sz)) 7 75 (va_A [(h0, .inr (1, [.int (zI 0), .null, .null, .null, .null, .null, .null, .int (zI 0), .null]))] sz) := by
  refine Met.ofW (cc := cX1_init) (maxL := 1) (ret := none) (by decide) rfl ?_
  intro p e s m args below meth c s₁ B hml hv
  obtain ⟨rfl, hsz, hP, hK, hD0⟩ := hv
  have hx := B.exec
  have hb := B.bytes
  have hr := B.returns
  have hts := atoms_spec (ws := ws_ yX1_init cX1_init 1 none) B.pre
  have hts : ∀ w ∈ lw_all, w.before _ s = true := fun w h => hts w (List.mem_cons_of_mem _ h)
  have hown : s.vm.findClass RX1 = some m.cls := findClass_of_methodNamed B.named
  have hlocks := B.notSynchronized
  have hin : meth.name = "<init>" := (name_of_methodNamed B.named B.method).1
  subst hsz
  have hD := hD0.self (sz := s.heap.size)
  generalize hAe : va_A [(h0, .inr (1, [.int (zI 0), .null, .null, .null, .null, .null, .null, .int (zI 0), .null]))] s.heap.size = A at hD ⊢
  have hA : ∀ q : Nat, s.heap.size ≤ q → A q := fun q h => by rw [← hAe]; exact Or.inr h
  have hS : va_S A s.heap s.heap [] := va_S.rf
  have hP : va_P D vwCl [(h0, .inr (1, [.int (zI 0), .null, .null, .null, .null, .null, .null, .int (zI 0), .null]))] s.heap := hP
  have hl := lv_entry ([.ref h0]) (n := 1) (Nat.le_of_ble_eq_true rfl)
  rw [lg_entry_eq]
  generalize (lg_sl ([.ref h0]) ++ List.replicate (1 - (lg_sl ([.ref h0])).length) Slot.unset).toArray = ls at hl ⊢
  have hl : lv_has ls 1 [(0, .ref h0)] := hl
  refine lv_aload_n hx hb dX1_init_0 rfl (lv_at hl 0 rfl) ?_
  refine W.objInit hx hb hown (hts _ q227) (hts _ q41) (hts _ q42) rfl (by rw [hml]; exact hl.1) rfl dX1_init_1 (Nat.le_of_ble_eq_true rfl) (Nat.le_of_ble_eq_true rfl) ?_
  refine W.eq (g2 := F0 m 4 ls []) rfl ?_
  refine lv_aload_n hx hb dX1_init_4 rfl (lv_at hl 0 rfl) ?_
  refine lv_bipush (v := zI 18) hx hb dX1_init_5 (by decide +kernel) ?_
  refine va_newa (atype := .int) (N' := 18) (a0 := (18, .inl (ar (fun _ => 0)))) hx hb (hts _ q86) (ty := .int) rfl hK hP hD hS hA (fun cA => by rw [ar_0]; rfl) (by decide +kernel) (by decide +kernel) (by decide +kernel) (by decide) (by decide) dX1_init_7 (fun q1 c1 H hK hP hD hS => ?_)
  have hK : va_K D vwCl [(c1, .int)] s := hK
  have hP : va_P D vwCl [(h0, .inr (1, [.int (zI 0), .null, .null, .null, .null, .null, .null, .int (zI 0), .null])), (q1, .inl (c1, 18, .inl (ar (fun _ => 0))))] H := hP
  have hD : va_D A [(h0, .inr (1, [.int (zI 0), .null, .null, .null, .null, .null, .null, .int (zI 0), .null])), (q1, .inl (c1, 18, .inl (ar (fun _ => 0))))] := hD
  refine va_putF (D := D) (ci := 1) (v := .ref q1) (ty := .array .int) (C := RX1) (T := TX1) (N := 9) hx hb hts in_X1 tyX1 tyX1_ok nmX1 hown hK hP hD hS 0 rfl rfl 1 (by decide) (hts _ q229) (fun _ h9 => h9) rfl hin rfl (by decide +kernel) rfl rfl (Nat.le_of_ble_eq_true rfl) dX1_init_9 (fun H locs hP hD hS => ?_)
  have hP : va_P D vwCl [(h0, .inr (1, [.int (zI 0), .ref q1, .null, .null, .null, .null, .null, .int (zI 0), .null])), (q1, .inl (c1, 18, .inl (ar (fun _ => 0))))] H := hP
  have hD : va_D A [(h0, .inr (1, [.int (zI 0), .ref q1, .null, .null, .null, .null, .null, .int (zI 0), .null])), (q1, .inl (c1, 18, .inl (ar (fun _ => 0))))] := hD
  refine lv_aload_n hx hb dX1_init_12 rfl (lv_at hl 0 rfl) ?_
  refine lv_bipush (v := zI 18) hx hb dX1_init_13 (by decide +kernel) ?_
  refine va_newa (atype := .int) (N' := 18) (a0 := (18, .inl (ar (fun _ => 0)))) hx hb (hts _ q86) (ty := .int) rfl hK hP hD hS hA (fun cA => by rw [ar_0]; rfl) (by decide +kernel) (by decide +kernel) (by decide +kernel) (by decide) (by decide) dX1_init_15 (fun q2 c2 H hK hP hD hS => ?_)
  have hK : va_K D vwCl [(c1, .int), (c2, .int)] s := hK
  have hP : va_P D vwCl [(h0, .inr (1, [.int (zI 0), .ref q1, .null, .null, .null, .null, .null, .int (zI 0), .null])), (q1, .inl (c1, 18, .inl (ar (fun _ => 0)))), (q2, .inl (c2, 18, .inl (ar (fun _ => 0))))] H := hP
  have hD : va_D A [(h0, .inr (1, [.int (zI 0), .ref q1, .null, .null, .null, .null, .null, .int (zI 0), .null])), (q1, .inl (c1, 18, .inl (ar (fun _ => 0)))), (q2, .inl (c2, 18, .inl (ar (fun _ => 0))))] := hD
  refine va_putF (D := D) (ci := 1) (v := .ref q2) (ty := .array .int) (C := RX1) (T := TX1) (N := 9) hx hb hts in_X1 tyX1 tyX1_ok nmX1 hown hK hP hD hS 0 rfl rfl 2 (by decide) (hts _ q230) (fun _ h9 => h9) rfl hin rfl (by decide +kernel) rfl rfl (Nat.le_of_ble_eq_true rfl) dX1_init_17 (fun H locs hP hD hS => ?_)
  have hP : va_P D vwCl [(h0, .inr (1, [.int (zI 0), .ref q1, .ref q2, .null, .null, .null, .null, .int (zI 0), .null])), (q1, .inl (c1, 18, .inl (ar (fun _ => 0)))), (q2, .inl (c2, 18, .inl (ar (fun _ => 0))))] H := hP
  have hD : va_D A [(h0, .inr (1, [.int (zI 0), .ref q1, .ref q2, .null, .null, .null, .null, .int (zI 0), .null])), (q1, .inl (c1, 18, .inl (ar (fun _ => 0)))), (q2, .inl (c2, 18, .inl (ar (fun _ => 0))))] := hD
  refine lv_aload_n hx hb dX1_init_20 rfl (lv_at hl 0 rfl) ?_
  refine lv_iconst (v := zI 3) hx hb dX1_init_21 (by decide +kernel) ?_
  refine va_newa (atype := .int) (N' := 3) (a0 := (3, .inl (ar (fun _ => 0)))) hx hb (hts _ q86) (ty := .int) rfl hK hP hD hS hA (fun cA => by rw [ar_0]; rfl) (by decide +kernel) (by decide +kernel) (by decide +kernel) (by decide) (by decide) dX1_init_22 (fun q3 c3 H hK hP hD hS => ?_)
  have hK : va_K D vwCl [(c1, .int), (c2, .int), (c3, .int)] s := hK
  have hP : va_P D vwCl [(h0, .inr (1, [.int (zI 0), .ref q1, .ref q2, .null, .null, .null, .null, .int (zI 0), .null])), (q1, .inl (c1, 18, .inl (ar (fun _ => 0)))), (q2, .inl (c2, 18, .inl (ar (fun _ => 0)))), (q3, .inl (c3, 3, .inl (ar (fun _ => 0))))] H := hP
  have hD : va_D A [(h0, .inr (1, [.int (zI 0), .ref q1, .ref q2, .null, .null, .null, .null, .int (zI 0), .null])), (q1, .inl (c1, 18, .inl (ar (fun _ => 0)))), (q2, .inl (c2, 18, .inl (ar (fun _ => 0)))), (q3, .inl (c3, 3, .inl (ar (fun _ => 0))))] := hD
  refine va_putF (D := D) (ci := 1) (v := .ref q3) (ty := .array .int) (C := RX1) (T := TX1) (N := 9) hx hb hts in_X1 tyX1 tyX1_ok nmX1 hown hK hP hD hS 0 rfl rfl 3 (by decide) (hts _ q231) (fun _ h9 => h9) rfl hin rfl (by decide +kernel) rfl rfl (Nat.le_of_ble_eq_true rfl) dX1_init_24 (fun H locs hP hD hS => ?_)
  have hP : va_P D vwCl [(h0, .inr (1, [.int (zI 0), .ref q1, .ref q2, .ref q3, .null, .null, .null, .int (zI 0), .null])), (q1, .inl (c1, 18, .inl (ar (fun _ => 0)))), (q2, .inl (c2, 18, .inl (ar (fun _ => 0)))), (q3, .inl (c3, 3, .inl (ar (fun _ => 0))))] H := hP
  have hD : va_D A [(h0, .inr (1, [.int (zI 0), .ref q1, .ref q2, .ref q3, .null, .null, .null, .int (zI 0), .null])), (q1, .inl (c1, 18, .inl (ar (fun _ => 0)))), (q2, .inl (c2, 18, .inl (ar (fun _ => 0)))), (q3, .inl (c3, 3, .inl (ar (fun _ => 0))))] := hD
  refine lv_aload_n hx hb dX1_init_27 rfl (lv_at hl 0 rfl) ?_
  refine lv_iconst (v := zI 3) hx hb dX1_init_28 (by decide +kernel) ?_
  refine va_newa (atype := .int) (N' := 3) (a0 := (3, .inl (ar (fun _ => 0)))) hx hb (hts _ q86) (ty := .int) rfl hK hP hD hS hA (fun cA => by rw [ar_0]; rfl) (by decide +kernel) (by decide +kernel) (by decide +kernel) (by decide) (by decide) dX1_init_29 (fun q4 c4 H hK hP hD hS => ?_)
  have hK : va_K D vwCl [(c1, .int), (c2, .int), (c3, .int), (c4, .int)] s := hK
  have hP : va_P D vwCl [(h0, .inr (1, [.int (zI 0), .ref q1, .ref q2, .ref q3, .null, .null, .null, .int (zI 0), .null])), (q1, .inl (c1, 18, .inl (ar (fun _ => 0)))), (q2, .inl (c2, 18, .inl (ar (fun _ => 0)))), (q3, .inl (c3, 3, .inl (ar (fun _ => 0)))), (q4, .inl (c4, 3, .inl (ar (fun _ => 0))))] H := hP
  have hD : va_D A [(h0, .inr (1, [.int (zI 0), .ref q1, .ref q2, .ref q3, .null, .null, .null, .int (zI 0), .null])), (q1, .inl (c1, 18, .inl (ar (fun _ => 0)))), (q2, .inl (c2, 18, .inl (ar (fun _ => 0)))), (q3, .inl (c3, 3, .inl (ar (fun _ => 0)))), (q4, .inl (c4, 3, .inl (ar (fun _ => 0))))] := hD
  refine va_putF (D := D) (ci := 1) (v := .ref q4) (ty := .array .int) (C := RX1) (T := TX1) (N := 9) hx hb hts in_X1 tyX1 tyX1_ok nmX1 hown hK hP hD hS 0 rfl rfl 4 (by decide) (hts _ q232) (fun _ h9 => h9) rfl hin rfl (by decide +kernel) rfl rfl (Nat.le_of_ble_eq_true rfl) dX1_init_31 (fun H locs hP hD hS => ?_)
  have hP : va_P D vwCl [(h0, .inr (1, [.int (zI 0), .ref q1, .ref q2, .ref q3, .ref q4, .null, .null, .int (zI 0), .null])), (q1, .inl (c1, 18, .inl (ar (fun _ => 0)))), (q2, .inl (c2, 18, .inl (ar (fun _ => 0)))), (q3, .inl (c3, 3, .inl (ar (fun _ => 0)))), (q4, .inl (c4, 3, .inl (ar (fun _ => 0))))] H := hP
  have hD : va_D A [(h0, .inr (1, [.int (zI 0), .ref q1, .ref q2, .ref q3, .ref q4, .null, .null, .int (zI 0), .null])), (q1, .inl (c1, 18, .inl (ar (fun _ => 0)))), (q2, .inl (c2, 18, .inl (ar (fun _ => 0)))), (q3, .inl (c3, 3, .inl (ar (fun _ => 0)))), (q4, .inl (c4, 3, .inl (ar (fun _ => 0))))] := hD
  refine lv_aload_n hx hb dX1_init_34 rfl (lv_at hl 0 rfl) ?_
  refine lv_bipush (v := zI 12) hx hb dX1_init_35 (by decide +kernel) ?_
  refine va_newa (atype := .int) (N' := 12) (a0 := (12, .inl (ar (fun _ => 0)))) hx hb (hts _ q86) (ty := .int) rfl hK hP hD hS hA (fun cA => by rw [ar_0]; rfl) (by decide +kernel) (by decide +kernel) (by decide +kernel) (by decide) (by decide) dX1_init_37 (fun q5 c5 H hK hP hD hS => ?_)
  have hK : va_K D vwCl [(c1, .int), (c2, .int), (c3, .int), (c4, .int), (c5, .int)] s := hK
  have hP : va_P D vwCl [(h0, .inr (1, [.int (zI 0), .ref q1, .ref q2, .ref q3, .ref q4, .null, .null, .int (zI 0), .null])), (q1, .inl (c1, 18, .inl (ar (fun _ => 0)))), (q2, .inl (c2, 18, .inl (ar (fun _ => 0)))), (q3, .inl (c3, 3, .inl (ar (fun _ => 0)))), (q4, .inl (c4, 3, .inl (ar (fun _ => 0)))), (q5, .inl (c5, 12, .inl (ar (fun _ => 0))))] H := hP
  have hD : va_D A [(h0, .inr (1, [.int (zI 0), .ref q1, .ref q2, .ref q3, .ref q4, .null, .null, .int (zI 0), .null])), (q1, .inl (c1, 18, .inl (ar (fun _ => 0)))), (q2, .inl (c2, 18, .inl (ar (fun _ => 0)))), (q3, .inl (c3, 3, .inl (ar (fun _ => 0)))), (q4, .inl (c4, 3, .inl (ar (fun _ => 0)))), (q5, .inl (c5, 12, .inl (ar (fun _ => 0))))] := hD
  refine va_putF (D := D) (ci := 1) (v := .ref q5) (ty := .array .int) (C := RX1) (T := TX1) (N := 9) hx hb hts in_X1 tyX1 tyX1_ok nmX1 hown hK hP hD hS 0 rfl rfl 5 (by decide) (hts _ q233) (fun _ h9 => h9) rfl hin rfl (by decide +kernel) rfl rfl (Nat.le_of_ble_eq_true rfl) dX1_init_39 (fun H locs hP hD hS => ?_)
  have hP : va_P D vwCl [(h0, .inr (1, [.int (zI 0), .ref q1, .ref q2, .ref q3, .ref q4, .ref q5, .null, .int (zI 0), .null])), (q1, .inl (c1, 18, .inl (ar (fun _ => 0)))), (q2, .inl (c2, 18, .inl (ar (fun _ => 0)))), (q3, .inl (c3, 3, .inl (ar (fun _ => 0)))), (q4, .inl (c4, 3, .inl (ar (fun _ => 0)))), (q5, .inl (c5, 12, .inl (ar (fun _ => 0))))] H := hP
  have hD : va_D A [(h0, .inr (1, [.int (zI 0), .ref q1, .ref q2, .ref q3, .ref q4, .ref q5, .null, .int (zI 0), .null])), (q1, .inl (c1, 18, .inl (ar (fun _ => 0)))), (q2, .inl (c2, 18, .inl (ar (fun _ => 0)))), (q3, .inl (c3, 3, .inl (ar (fun _ => 0)))), (q4, .inl (c4, 3, .inl (ar (fun _ => 0)))), (q5, .inl (c5, 12, .inl (ar (fun _ => 0))))] := hD
  refine lv_aload_n hx hb dX1_init_42 rfl (lv_at hl 0 rfl) ?_
  refine lv_iconst (v := zI 3) hx hb dX1_init_43 (by decide +kernel) ?_
  refine va_newa (atype := .int) (N' := 3) (a0 := (3, .inl (ar (fun _ => 0)))) hx hb (hts _ q86) (ty := .int) rfl hK hP hD hS hA (fun cA => by rw [ar_0]; rfl) (by decide +kernel) (by decide +kernel) (by decide +kernel) (by decide) (by decide) dX1_init_44 (fun q6 c6 H hK hP hD hS => ?_)
  have hK : va_K D vwCl [(c1, .int), (c2, .int), (c3, .int), (c4, .int), (c5, .int), (c6, .int)] s := hK
  have hP : va_P D vwCl [(h0, .inr (1, [.int (zI 0), .ref q1, .ref q2, .ref q3, .ref q4, .ref q5, .null, .int (zI 0), .null])), (q1, .inl (c1, 18, .inl (ar (fun _ => 0)))), (q2, .inl (c2, 18, .inl (ar (fun _ => 0)))), (q3, .inl (c3, 3, .inl (ar (fun _ => 0)))), (q4, .inl (c4, 3, .inl (ar (fun _ => 0)))), (q5, .inl (c5, 12, .inl (ar (fun _ => 0)))), (q6, .inl (c6, 3, .inl (ar (fun _ => 0))))] H := hP
  have hD : va_D A [(h0, .inr (1, [.int (zI 0), .ref q1, .ref q2, .ref q3, .ref q4, .ref q5, .null, .int (zI 0), .null])), (q1, .inl (c1, 18, .inl (ar (fun _ => 0)))), (q2, .inl (c2, 18, .inl (ar (fun _ => 0)))), (q3, .inl (c3, 3, .inl (ar (fun _ => 0)))), (q4, .inl (c4, 3, .inl (ar (fun _ => 0)))), (q5, .inl (c5, 12, .inl (ar (fun _ => 0)))), (q6, .inl (c6, 3, .inl (ar (fun _ => 0))))] := hD
  refine va_putF (D := D) (ci := 1) (v := .ref q6) (ty := .array .int) (C := RX1) (T := TX1) (N := 9) hx hb hts in_X1 tyX1 tyX1_ok nmX1 hown hK hP hD hS 0 rfl rfl 6 (by decide) (hts _ q234) (fun _ h9 => h9) rfl hin rfl (by decide +kernel) rfl rfl (Nat.le_of_ble_eq_true rfl) dX1_init_46 (fun H locs hP hD hS => ?_)
  have hP : va_P D vwCl [(h0, .inr (1, [.int (zI 0), .ref q1, .ref q2, .ref q3, .ref q4, .ref q5, .ref q6, .int (zI 0), .null])), (q1, .inl (c1, 18, .inl (ar (fun _ => 0)))), (q2, .inl (c2, 18, .inl (ar (fun _ => 0)))), (q3, .inl (c3, 3, .inl (ar (fun _ => 0)))), (q4, .inl (c4, 3, .inl (ar (fun _ => 0)))), (q5, .inl (c5, 12, .inl (ar (fun _ => 0)))), (q6, .inl (c6, 3, .inl (ar (fun _ => 0))))] H := hP
  have hD : va_D A [(h0, .inr (1, [.int (zI 0), .ref q1, .ref q2, .ref q3, .ref q4, .ref q5, .ref q6, .int (zI 0), .null])), (q1, .inl (c1, 18, .inl (ar (fun _ => 0)))), (q2, .inl (c2, 18, .inl (ar (fun _ => 0)))), (q3, .inl (c3, 3, .inl (ar (fun _ => 0)))), (q4, .inl (c4, 3, .inl (ar (fun _ => 0)))), (q5, .inl (c5, 12, .inl (ar (fun _ => 0)))), (q6, .inl (c6, 3, .inl (ar (fun _ => 0))))] := hD
  refine lv_aload_n hx hb dX1_init_49 rfl (lv_at hl 0 rfl) ?_
  refine lv_bipush (v := zI 18) hx hb dX1_init_50 (by decide +kernel) ?_
  refine va_newa (atype := .int) (N' := 18) (a0 := (18, .inl (ar (fun _ => 0)))) hx hb (hts _ q86) (ty := .int) rfl hK hP hD hS hA (fun cA => by rw [ar_0]; rfl) (by decide +kernel) (by decide +kernel) (by decide +kernel) (by decide) (by decide) dX1_init_52 (fun q7 c7 H hK hP hD hS => ?_)
  have hK : va_K D vwCl [(c1, .int), (c2, .int), (c3, .int), (c4, .int), (c5, .int), (c6, .int), (c7, .int)] s := hK
  have hP : va_P D vwCl [(h0, .inr (1, [.int (zI 0), .ref q1, .ref q2, .ref q3, .ref q4, .ref q5, .ref q6, .int (zI 0), .null])), (q1, .inl (c1, 18, .inl (ar (fun _ => 0)))), (q2, .inl (c2, 18, .inl (ar (fun _ => 0)))), (q3, .inl (c3, 3, .inl (ar (fun _ => 0)))), (q4, .inl (c4, 3, .inl (ar (fun _ => 0)))), (q5, .inl (c5, 12, .inl (ar (fun _ => 0)))), (q6, .inl (c6, 3, .inl (ar (fun _ => 0)))), (q7, .inl (c7, 18, .inl (ar (fun _ => 0))))] H := hP
  have hD : va_D A [(h0, .inr (1, [.int (zI 0), .ref q1, .ref q2, .ref q3, .ref q4, .ref q5, .ref q6, .int (zI 0), .null])), (q1, .inl (c1, 18, .inl (ar (fun _ => 0)))), (q2, .inl (c2, 18, .inl (ar (fun _ => 0)))), (q3, .inl (c3, 3, .inl (ar (fun _ => 0)))), (q4, .inl (c4, 3, .inl (ar (fun _ => 0)))), (q5, .inl (c5, 12, .inl (ar (fun _ => 0)))), (q6, .inl (c6, 3, .inl (ar (fun _ => 0)))), (q7, .inl (c7, 18, .inl (ar (fun _ => 0))))] := hD
  refine va_putF (D := D) (ci := 1) (v := .ref q7) (ty := .array .int) (C := RX1) (T := TX1) (N := 9) hx hb hts in_X1 tyX1 tyX1_ok nmX1 hown hK hP hD hS 0 rfl rfl 8 (by decide) (hts _ q236) (fun _ h9 => h9) rfl hin rfl (by decide +kernel) rfl rfl (Nat.le_of_ble_eq_true rfl) dX1_init_54 (fun H locs hP hD hS => ?_)
  have hP : va_P D vwCl [(h0, .inr (1, [.int (zI 0), .ref q1, .ref q2, .ref q3, .ref q4, .ref q5, .ref q6, .int (zI 0), .ref q7])), (q1, .inl (c1, 18, .inl (ar (fun _ => 0)))), (q2, .inl (c2, 18, .inl (ar (fun _ => 0)))), (q3, .inl (c3, 3, .inl (ar (fun _ => 0)))), (q4, .inl (c4, 3, .inl (ar (fun _ => 0)))), (q5, .inl (c5, 12, .inl (ar (fun _ => 0)))), (q6, .inl (c6, 3, .inl (ar (fun _ => 0)))), (q7, .inl (c7, 18, .inl (ar (fun _ => 0))))] H := hP
  have hD : va_D A [(h0, .inr (1, [.int (zI 0), .ref q1, .ref q2, .ref q3, .ref q4, .ref q5, .ref q6, .int (zI 0), .ref q7])), (q1, .inl (c1, 18, .inl (ar (fun _ => 0)))), (q2, .inl (c2, 18, .inl (ar (fun _ => 0)))), (q3, .inl (c3, 3, .inl (ar (fun _ => 0)))), (q4, .inl (c4, 3, .inl (ar (fun _ => 0)))), (q5, .inl (c5, 12, .inl (ar (fun _ => 0)))), (q6, .inl (c6, 3, .inl (ar (fun _ => 0)))), (q7, .inl (c7, 18, .inl (ar (fun _ => 0))))] := hD
  have e2 : c1 = c2 := Option.some.inj ((hK.2 0 _ rfl).2.symm.trans (hK.2 1 _ rfl).2)
  have e3 : c1 = c3 := Option.some.inj ((hK.2 0 _ rfl).2.symm.trans (hK.2 2 _ rfl).2)
  have e4 : c1 = c4 := Option.some.inj ((hK.2 0 _ rfl).2.symm.trans (hK.2 3 _ rfl).2)
  have e5 : c1 = c5 := Option.some.inj ((hK.2 0 _ rfl).2.symm.trans (hK.2 4 _ rfl).2)
  have e6 : c1 = c6 := Option.some.inj ((hK.2 0 _ rfl).2.symm.trans (hK.2 5 _ rfl).2)
  have e7 : c1 = c7 := Option.some.inj ((hK.2 0 _ rfl).2.symm.trans (hK.2 6 _ rfl).2)
  subst e2
  subst e3
  subst e4
  subst e5
  subst e6
  subst e7
  have hK9 := hK.sub (tys' := [(c1, .int)]) [0] rfl
  exact W.vret hx hb hr (fun t ht hW => ⟨⟨((fun k => match k with | 0 => h0 | 1 => q1 | 2 => q2 | 3 => q3 | 4 => q4 | 5 => q5 | 6 => q6 | _ => q7), c1), rfl, rfl, by rw [ht]; exact hP, va_K.moved hW.alike hK9, hD⟩, hS.F ht⟩) hS.2.2 dX1_init_57
end
section
/-! THE CLAIM OUT OF ONE WALK OF THE LAW'S BODY. Your part is whole_start (and what it stands on); all else here is the same for every law, but numbers. -/
def R_law : String := "ExampleLearnerLaw"
def lw_P (b : Addr) (xs : List Int32) (args : Array Value) (s : State) : Prop := args = #[.ref b] ∧ s.IntsAt b xs ∧ xs.length ≤ 128 ∧ (Jvm.Cond.and given_1 narrow_1).before args s = true
def lw_Q (_ : Array Value) (s : State) (o : Outcome) (t : State) : Prop := o = .returned (some (.int 1)) ∧ Framed s o t [] 600000 7290000
def lw_Z (below : List Frame) (a : Array Value) (s : State) : State → Prop := fun t => ∃ o, t.status = .running ∧ Ended t below o ∧ lw_Q a s o t
/-- the law's own end, with 1 on the stack, nothing written that was there before, its room as the claim has it -/
theorem lw_ret {p : Program} {l : Launch} {e : Env} {s : State} {m : MethodId} {below : List Frame} {meth : Method} {c : Code} {b : Nat} (hx : p.tables.exec = Jvm.exec) (hb : c.code = code) (hr : meth.sig.returnType = ret) (hlocks : meth.locks = false) {pc : Nat} {H : Heap} {ls : Array Slot} (hdg : decode code pc = .ok (.ireturn, 1)) : W p l e room_1 s m #[Value.ref b] below meth c H [] 600000 7290000 (lw_Z below #[Value.ref b] s) (F0 m pc ls [.int 1]) := by
  intro T hT X
  obtain ⟨fs, hret, hrun, hended, hW, hframe⟩ := X.leave (v := some (.int 1)) (hlocks := hlocks) (fun h => by rw [hr] at h; cases h)
  have hmeth' : T.vm.method? m = some meth := X.method'
  refine ⟨T.setFrames fs, ?_, .returned (some (.int 1)), hrun, hended, rfl, ⟨_, rfl⟩, hW, hframe⟩
  jvm_step X.here [X.here.top, hx, hb, hdg, hmeth', hr, ret, narrow_b1]
  (try refine ⟨rfl, ?_⟩); (try refine ⟨rfl, ?_⟩)
  first | (intro acts; rw [hret _ acts rfl rfl rfl]) | rw [hret _ _ rfl rfl rfl]
  exact Steps.refl _
/-- what holds at the law's entry: the machine, the code, the tables' words (any of lw_tbl by 'hts w (by decide +kernel)'), the script of L ints xs at the cell b, what the Statement gives of the start (any of its parts by flat_of_before) -/
def lw_At (p : Program) (s : State) (m : MethodId) (meth : Method) (c : Code) (b L : Nat) (xs : Nat → Int32) : Prop :=
  p.tables.exec = Jvm.exec ∧ c.code = code ∧ meth.sig.returnType = ret ∧ c.maxLocals = 4 ∧ s.vm.findClass R_law = some m.cls ∧ (∀ w ∈ lw_tbl, w.before #[Value.ref b] s = true) ∧ va_X b L xs s s.heap ∧ b < s.heap.size ∧ meth.locks = false ∧ (Jvm.Cond.and given_1 narrow_1).before #[Value.ref b] s = true
end
section
def sv (xs : Nat → Int32) (j : Int) : Int := (xs j.toNat).toInt
theorem sv_rg (xs : Nat → Int32) (j : Int) : -2147483648 ≤ sv xs j ∧ sv xs j ≤ 2147483647 := zI_rg _
section ZLaw
variable {p : Program} {l : Launch} {e : Env} {R : Room} {s : State} {m : MethodId} {args : Array Value} {below : List Frame} {meth : Method} {c : Code} {H : Heap} {locs : List Loc} {cells slots : Nat} {Q : State → Prop}
variable {D : va_G} {tys tys' : List (ClassId × FieldType)} {A : Nat → Prop} {cc : ByteArray} {nL : Nat} {rt : Option FieldType} {own : String} {pc : Nat} {ls : Array Slot} {rest st : List Value} {ws wr : va_W}
theorem z_sld (E : Fx p s m args meth c D tys A cc nL rt own) (h : ZH D A s.heap ws H locs) {b L : Nat} {xs : Nat → Int32} (hX : va_X b L xs s s.heap) (hbl : b < s.heap.size) (hbA : ¬ A b) {i : Int} (hi : 0 ≤ i ∧ i < (L : Int)) (hL : L ≤ 2147483647) (hdg : decode cc pc = .ok (.iaload, 1)) (k : W p l e R s m args below meth c H locs cells slots Q (F0 m (pc + 1) ls (.int (zI (sv xs i)) :: rest))) : W p l e R s m args below meth c H locs cells slots Q (F0 m pc ls (.int (zI i) :: .ref b :: rest)) := by
  refine va_sld E.1 E.2.1 hX hbl hbA h.2.2 (zI_in hi hL) hdg ?_
  rw [zI_clamp (by omega), zI_of (xs i.toNat)]
  exact k
theorem z_slen (E : Fx p s m args meth c D tys A cc nL rt own) (h : ZH D A s.heap ws H locs) {b L : Nat} {xs : Nat → Int32} (hX : va_X b L xs s s.heap) (hbl : b < s.heap.size) (hbA : ¬ A b) (hdg : decode cc pc = .ok (.arraylength, 1)) (k : W p l e R s m args below meth c H locs cells slots Q (F0 m (pc + 1) ls (.int (zI (L : Int)) :: rest))) : W p l e R s m args below meth c H locs cells slots Q (F0 m pc ls (.ref b :: rest)) := by
  refine va_slen E.1 E.2.1 hX hbl hbA h.2.2 hdg ?_
  rw [← Int32.ofInt_eq_ofNat]
  exact k
variable {y : MethodName} {b' : ByteArray} {nL' fr lo n idx a mc ms : Nat} {As : List Value} {S : Type} {postv : S → Prop} {w : S → va_W} {tt : S → List (ClassId × FieldType)}
/-- a constructor's call, its world first, a rest beside it -/
theorem z_callI (E : Fx p s m args meth c D tys A cc nL rt own) (h : ZH D A s.heap (ws ++ wr) H locs) (hK : va_K D vwCl tys' s)
    (hM : ∀ sz : Nat, Met l y (ws_ y b' nL' none) ({ frames := fr, cells := mc, slots := ms, locals := lo }) (va_Pc (.ref a :: As) (fun U => U.heap.size = sz ∧ va_P D vwCl ws U.heap ∧ va_K D vwCl tys' U ∧ va_D (fun _ => True) ws)) (va_Qv postv (fun u t => va_P D vwCl (w u) t.heap ∧ va_K D vwCl (tt u) t ∧ va_D (va_A ws sz) (w u)) (va_A ws sz)) mc ms (va_A ws sz))
    (q1 : Cond.methodLink own idx y ∈ lw_all) (q2 : Cond.instanceMethod y ∈ lw_all) (q4 : Cond.initialized y.cls ∈ lw_all) (q5 : Cond.code y b' nL' none ∈ lw_all) (hy : y.name = "<init>")
    (hd : y.cls ≠ "java/lang/invoke/MethodHandle" ∧ y.cls ≠ "java/lang/invoke/VarHandle" ∧ (parseMethodDescriptor y.desc).map (fun d => d.parameters.length) = some n) (hR : fr + 1 ≤ R.frames ∧ 8 + (nL' + 11) + lo ≤ R.locals) (hcs : cells + mc ≤ R.cells ∧ slots + ms ≤ R.slots)
    (hn : As.length = n) (hsz : ls.size = nL) (hrest : (rest.map fun v => v.category).sum ≤ 8) (hst : st = As.reverse ++ .ref a :: rest) (hdg : decode cc pc = .ok (.invokespecial idx, 3))
    (kk : ∀ (u : S) (H1 : Heap) (locs1 : List Loc), postv u → ZH D A s.heap (w u ++ wr) H1 locs1 → va_K D vwCl (tt u) s → W p l e R s m args below meth c H1 locs1 (cells + mc) (slots + ms) Q (F0 m (pc + 3) ls rest)) : W p l e R s m args below meth c H locs cells slots Q (F0 m pc ls st) := by
  obtain ⟨hx, hb, hml, hr, hlocks, hown, hts, hA, -⟩ := E
  obtain ⟨h1, h2, -⟩ := h.two
  have hF := h1.free hA
  subst hst
  refine va_callv (va_runI (As := As) (rest := rest) ⟨hx, hb, hml, hown, hts⟩ (hM H.size) (cwI n hts (lw_meth q5) rfl rfl rfl (hts _ q4) (hts _ q1) (hts _ q2) hy hd hR) ⟨fun a U g mk q => by obtain ⟨q0, q1, qP, qK, qD⟩ := q; exact ⟨q0, q1, qP, va_K.moved (u := U) (U := U.calling g mk a) (Vm.Alike.refl U.vm) qK, qD⟩, fun U hU hW => ⟨rfl, by rw [hU], by rw [hU]; exact h1.1, va_K.moved hW.alike hK, h1.2.1.weaken (fun _ _ _ _ => trivial)⟩⟩ rfl hn hsz rfl (lv_room hrest) hdg hcs) h.2.2 (fun q _ z => hF q z) hF (fun u t H1 locs1 ht hvm hw hB hz1 hk1 hS => ?_)
  obtain ⟨hP1, hK1, hD1⟩ := hB
  rw [ht] at hP1
  exact kk u H1 locs1 hw (h.join hA hk1 hP1 hD1 hS) (va_K.moved hvm.symm hK1)
end ZLaw
set_option maxHeartbeats 4000000 in
set_option maxRecDepth 100000 in
theorem law_typeIn {p : Program} {l : Launch} {e : Env} {s : State} {m : MethodId} {below : List Frame} {meth : Method} {c : Code} {D : va_G} {adx adm : Nat → Nat} {cI cB cJ : ClassId} {b L : Nat} {xs : Nat → Int32} (hL : L ≤ 128) (E : Fx p s m #[Value.ref b] meth c D [(cI, .int), (cB, .byte), (cJ, .int)] (fun q : Nat => s.heap.size ≤ q) code 4 ret R_law) (hX : va_X b L xs s s.heap) (hbl : b < s.heap.size) {i : Int} (hi : 0 ≤ i ∧ i + 1 < (L : Int)) {T : TT} {C : CC} {O : OO} {N : NN} {H : Heap} {locs : List Loc} {ls : Array Slot} (hT : TOk T) (hI : CInv T C) (hO : OB O) (hN : NB N) (h : ZH D (fun q : Nat => s.heap.size ≤ q) s.heap (wX adx cI cB T C O ++ wM adm cJ T N) H locs) (hl : lv_has ls 4 [(0, .ref b), (1, .ref (adx 0)), (2, .ref (adm 0)), (3, .int (zI i))]) (next : (∀ (T : TT) (C : CC) (O : OO) (N : NN) (H : Heap) (locs : List Loc), TOk T → CInv T C → OB O → NB N → ZH D (fun q : Nat => s.heap.size ≤ q) s.heap (wX adx cI cB T C O ++ wM adm cJ T N) H locs → W p l e room_1 s m #[Value.ref b] below meth c H locs 17 5733 (lw_Z below #[Value.ref b] s) (F0 m 327 ls []))) : W p l e room_1 s m #[Value.ref b] below meth c H locs 17 5733 (lw_Z below #[Value.ref b] s) (F0 m 100 ls []) := by
  have hbA : ¬ (fun q : Nat => s.heap.size ≤ q) b := Nat.not_le.mpr hbl
  refine z_aload_n E dL_law_100 hl 1 rfl ?_
  refine z_aload_n E dL_law_101 hl 0 rfl ?_
  refine z_iload_n E dL_law_102 hl 3 rfl ?_
  refine z_iconst E dL_law_103 ?_
  refine z_iadd E dL_law_104 ?_
  refine z_sld E h hX hbl hbA (by omega) (by omega) dL_law_105 ?_
  refine z_callL (n := 1) (rest := []) E h (E.2.2.2.2.2.2.2.2.sub [0, 1] rfl) (mX_typeIn l D adx cI cB T C O (sv xs (i + 1)) hT hI (sv_rg xs (i + 1))) q88 q89 q90 q33 q91 (by decide +kernel) ⟨Nat.le_of_ble_eq_true rfl, Nat.le_of_ble_eq_true rfl⟩ ⟨Nat.le_of_ble_eq_true rfl, Nat.le_of_ble_eq_true rfl⟩ rfl rfl rfl hl.1 (Nat.le_of_ble_eq_true rfl) rfl dL_law_106 (fun z1 u1 H locs e1 h => ?_)
  have h : ZH D (fun q : Nat => s.heap.size ≤ q) s.heap (wM adm cJ T N ++ wX adx cI cB (tIn T (sv xs (i + 1))) u1 O) H locs := h.swap
  refine z_aload_n E dL_law_109 hl 2 rfl ?_
  refine z_aload_n E dL_law_110 hl 0 rfl ?_
  refine z_iload_n E dL_law_111 hl 3 rfl ?_
  refine z_iconst E dL_law_112 ?_
  refine z_iadd E dL_law_113 ?_
  refine z_sld E h hX hbl hbA (by omega) (by omega) dL_law_114 ?_
  refine z_callL (n := 1) (rest := [.int (zI z1)]) E h (E.2.2.2.2.2.2.2.2.sub [2] rfl) (mM_typeIn l D adm cJ T N (sv xs (i + 1)) hT (sv_rg xs (i + 1))) q256 q257 q258 q34 q259 (by decide +kernel) ⟨Nat.le_of_ble_eq_true rfl, Nat.le_of_ble_eq_true rfl⟩ ⟨Nat.le_of_ble_eq_true rfl, Nat.le_of_ble_eq_true rfl⟩ rfl rfl rfl hl.1 (Nat.le_of_ble_eq_true rfl) rfl dL_law_115 (fun z2 u2 H locs e2 h => ?_)
  have h : ZH D (fun q : Nat => s.heap.size ≤ q) s.heap (wX adx cI cB (tIn T (sv xs (i + 1))) u1 O ++ wM adm cJ (tIn T (sv xs (i + 1))) N) H locs := h.swap
  refine lv_icmp_eq (tgt := 327) E.1 E.2.1 dL_law_118 (by decide) (fun _ => ?_) (fun q => absurd (congrArg zI (show z1 = z2 from e1.1.trans e2.symm)) q)
  exact next (tIn T (sv xs (i + 1))) u1 O N H locs (TOk_in hT _) e1.2 hO hN h
set_option maxHeartbeats 4000000 in
set_option maxRecDepth 100000 in
theorem law_typeOut {p : Program} {l : Launch} {e : Env} {s : State} {m : MethodId} {below : List Frame} {meth : Method} {c : Code} {D : va_G} {adx adm : Nat → Nat} {cI cB cJ : ClassId} {b L : Nat} {xs : Nat → Int32} (hL : L ≤ 128) (E : Fx p s m #[Value.ref b] meth c D [(cI, .int), (cB, .byte), (cJ, .int)] (fun q : Nat => s.heap.size ≤ q) code 4 ret R_law) (hX : va_X b L xs s s.heap) (hbl : b < s.heap.size) {i : Int} (hi : 0 ≤ i ∧ i + 1 < (L : Int)) {T : TT} {C : CC} {O : OO} {N : NN} {H : Heap} {locs : List Loc} {ls : Array Slot} (hT : TOk T) (hI : CInv T C) (hO : OB O) (hN : NB N) (h : ZH D (fun q : Nat => s.heap.size ≤ q) s.heap (wX adx cI cB T C O ++ wM adm cJ T N) H locs) (hl : lv_has ls 4 [(0, .ref b), (1, .ref (adx 0)), (2, .ref (adm 0)), (3, .int (zI i))]) (next : (∀ (T : TT) (C : CC) (O : OO) (N : NN) (H : Heap) (locs : List Loc), TOk T → CInv T C → OB O → NB N → ZH D (fun q : Nat => s.heap.size ≤ q) s.heap (wX adx cI cB T C O ++ wM adm cJ T N) H locs → W p l e room_1 s m #[Value.ref b] below meth c H locs 17 5733 (lw_Z below #[Value.ref b] s) (F0 m 327 ls []))) : W p l e room_1 s m #[Value.ref b] below meth c H locs 17 5733 (lw_Z below #[Value.ref b] s) (F0 m 123 ls []) := by
  have hbA : ¬ (fun q : Nat => s.heap.size ≤ q) b := Nat.not_le.mpr hbl
  refine z_aload_n E dL_law_123 hl 1 rfl ?_
  refine z_aload_n E dL_law_124 hl 0 rfl ?_
  refine z_iload_n E dL_law_125 hl 3 rfl ?_
  refine z_iconst E dL_law_126 ?_
  refine z_iadd E dL_law_127 ?_
  refine z_sld E h hX hbl hbA (by omega) (by omega) dL_law_128 ?_
  refine z_callL (n := 1) (rest := []) E h (E.2.2.2.2.2.2.2.2.sub [0, 1] rfl) (mX_typeOut l D adx cI cB T C O (sv xs (i + 1)) hT hI (sv_rg xs (i + 1))) q96 q97 q98 q33 q99 (by decide +kernel) ⟨Nat.le_of_ble_eq_true rfl, Nat.le_of_ble_eq_true rfl⟩ ⟨Nat.le_of_ble_eq_true rfl, Nat.le_of_ble_eq_true rfl⟩ rfl rfl rfl hl.1 (Nat.le_of_ble_eq_true rfl) rfl dL_law_129 (fun z1 u1 H locs e1 h => ?_)
  have h : ZH D (fun q : Nat => s.heap.size ≤ q) s.heap (wM adm cJ T N ++ wX adx cI cB (tOut T (sv xs (i + 1))) u1 O) H locs := h.swap
  refine z_aload_n E dL_law_132 hl 2 rfl ?_
  refine z_aload_n E dL_law_133 hl 0 rfl ?_
  refine z_iload_n E dL_law_134 hl 3 rfl ?_
  refine z_iconst E dL_law_135 ?_
  refine z_iadd E dL_law_136 ?_
  refine z_sld E h hX hbl hbA (by omega) (by omega) dL_law_137 ?_
  refine z_callL (n := 1) (rest := [.int (zI z1)]) E h (E.2.2.2.2.2.2.2.2.sub [2] rfl) (mM_typeOut l D adm cJ T N (sv xs (i + 1)) hT (sv_rg xs (i + 1))) q264 q265 q266 q34 q267 (by decide +kernel) ⟨Nat.le_of_ble_eq_true rfl, Nat.le_of_ble_eq_true rfl⟩ ⟨Nat.le_of_ble_eq_true rfl, Nat.le_of_ble_eq_true rfl⟩ rfl rfl rfl hl.1 (Nat.le_of_ble_eq_true rfl) rfl dL_law_138 (fun z2 u2 H locs e2 h => ?_)
  have h : ZH D (fun q : Nat => s.heap.size ≤ q) s.heap (wX adx cI cB (tOut T (sv xs (i + 1))) u1 O ++ wM adm cJ (tOut T (sv xs (i + 1))) N) H locs := h.swap
  refine lv_icmp_eq (tgt := 327) E.1 E.2.1 dL_law_141 (by decide) (fun _ => ?_) (fun q => absurd (congrArg zI (show z1 = z2 from e1.1.trans e2.symm)) q)
  exact next (tOut T (sv xs (i + 1))) u1 O N H locs (TOk_out hT _) e1.2 hO hN h
set_option maxHeartbeats 4000000 in
set_option maxRecDepth 100000 in
theorem law_erase {p : Program} {l : Launch} {e : Env} {s : State} {m : MethodId} {below : List Frame} {meth : Method} {c : Code} {D : va_G} {adx adm : Nat → Nat} {cI cB cJ : ClassId} {b L : Nat} {xs : Nat → Int32} (hL : L ≤ 128) (E : Fx p s m #[Value.ref b] meth c D [(cI, .int), (cB, .byte), (cJ, .int)] (fun q : Nat => s.heap.size ≤ q) code 4 ret R_law) (hX : va_X b L xs s s.heap) (hbl : b < s.heap.size) {i : Int} (hi : 0 ≤ i ∧ i + 1 < (L : Int)) {T : TT} {C : CC} {O : OO} {N : NN} {H : Heap} {locs : List Loc} {ls : Array Slot} (hT : TOk T) (hI : CInv T C) (hO : OB O) (hN : NB N) (h : ZH D (fun q : Nat => s.heap.size ≤ q) s.heap (wX adx cI cB T C O ++ wM adm cJ T N) H locs) (hl : lv_has ls 4 [(0, .ref b), (1, .ref (adx 0)), (2, .ref (adm 0)), (3, .int (zI i))]) (next : (∀ (T : TT) (C : CC) (O : OO) (N : NN) (H : Heap) (locs : List Loc), TOk T → CInv T C → OB O → NB N → ZH D (fun q : Nat => s.heap.size ≤ q) s.heap (wX adx cI cB T C O ++ wM adm cJ T N) H locs → W p l e room_1 s m #[Value.ref b] below meth c H locs 17 5733 (lw_Z below #[Value.ref b] s) (F0 m 327 ls []))) : W p l e room_1 s m #[Value.ref b] below meth c H locs 17 5733 (lw_Z below #[Value.ref b] s) (F0 m 146 ls []) := by
  have hbA : ¬ (fun q : Nat => s.heap.size ≤ q) b := Nat.not_le.mpr hbl
  refine z_aload_n E dL_law_146 hl 1 rfl ?_
  refine z_callLv (n := 0) (rest := []) E h (E.2.2.2.2.2.2.2.2.sub [0, 1] rfl) (mX_erase l D adx cI cB T C O  hT hI) q100 q101 q102 q33 q103 (by decide +kernel) ⟨Nat.le_of_ble_eq_true rfl, Nat.le_of_ble_eq_true rfl⟩ ⟨Nat.le_of_ble_eq_true rfl, Nat.le_of_ble_eq_true rfl⟩ rfl rfl rfl hl.1 (Nat.le_of_ble_eq_true rfl) rfl dL_law_147 (fun u1 H locs e1 h => ?_)
  have h : ZH D (fun q : Nat => s.heap.size ≤ q) s.heap (wM adm cJ T N ++ wX adx cI cB (tEr T) u1 O) H locs := h.swap
  refine z_aload_n E dL_law_150 hl 2 rfl ?_
  refine z_callLv (n := 0) (rest := []) E h (E.2.2.2.2.2.2.2.2.sub [2] rfl) (mM_erase l D adm cJ T N  ) q268 q269 q270 q34 q271 (by decide +kernel) ⟨Nat.le_of_ble_eq_true rfl, Nat.le_of_ble_eq_true rfl⟩ ⟨Nat.le_of_ble_eq_true rfl, Nat.le_of_ble_eq_true rfl⟩ rfl rfl rfl hl.1 (Nat.le_of_ble_eq_true rfl) rfl dL_law_151 (fun u2 H locs e2 h => ?_)
  have h : ZH D (fun q : Nat => s.heap.size ≤ q) s.heap (wX adx cI cB (tEr T) u1 O ++ wM adm cJ (tEr T) N) H locs := h.swap
  refine z_goto E 327 dL_law_154 (by decide) ?_
  exact next (tEr T) u1 O N H locs (TOk_er hT) e1 hO hN h
set_option maxHeartbeats 4000000 in
set_option maxRecDepth 100000 in
theorem law_learn {p : Program} {l : Launch} {e : Env} {s : State} {m : MethodId} {below : List Frame} {meth : Method} {c : Code} {D : va_G} {adx adm : Nat → Nat} {cI cB cJ : ClassId} {b L : Nat} {xs : Nat → Int32} (hL : L ≤ 128) (E : Fx p s m #[Value.ref b] meth c D [(cI, .int), (cB, .byte), (cJ, .int)] (fun q : Nat => s.heap.size ≤ q) code 4 ret R_law) (hX : va_X b L xs s s.heap) (hbl : b < s.heap.size) {i : Int} (hi : 0 ≤ i ∧ i + 1 < (L : Int)) {T : TT} {C : CC} {O : OO} {N : NN} {H : Heap} {locs : List Loc} {ls : Array Slot} (hT : TOk T) (hI : CInv T C) (hO : OB O) (hN : NB N) (h : ZH D (fun q : Nat => s.heap.size ≤ q) s.heap (wX adx cI cB T C O ++ wM adm cJ T N) H locs) (hl : lv_has ls 4 [(0, .ref b), (1, .ref (adx 0)), (2, .ref (adm 0)), (3, .int (zI i))]) (next : (∀ (T : TT) (C : CC) (O : OO) (N : NN) (H : Heap) (locs : List Loc), TOk T → CInv T C → OB O → NB N → ZH D (fun q : Nat => s.heap.size ≤ q) s.heap (wX adx cI cB T C O ++ wM adm cJ T N) H locs → W p l e room_1 s m #[Value.ref b] below meth c H locs 17 5733 (lw_Z below #[Value.ref b] s) (F0 m 327 ls []))) : W p l e room_1 s m #[Value.ref b] below meth c H locs 17 5733 (lw_Z below #[Value.ref b] s) (F0 m 157 ls []) := by
  have hbA : ¬ (fun q : Nat => s.heap.size ≤ q) b := Nat.not_le.mpr hbl
  refine z_aload_n E dL_law_157 hl 1 rfl ?_
  refine z_callL (n := 0) (rest := []) E h (E.2.2.2.2.2.2.2.2.sub [0, 1] rfl) (mX_learn l D adx cI cB T C O  hT hI) q104 q105 q106 q33 q107 (by decide +kernel) ⟨Nat.le_of_ble_eq_true rfl, Nat.le_of_ble_eq_true rfl⟩ ⟨Nat.le_of_ble_eq_true rfl, Nat.le_of_ble_eq_true rfl⟩ rfl rfl rfl hl.1 (Nat.le_of_ble_eq_true rfl) rfl dL_law_158 (fun z1 u1 H locs e1 h => ?_)
  have h : ZH D (fun q : Nat => s.heap.size ≤ q) s.heap (wM adm cJ T N ++ wX adx cI cB (tLe T) u1 O) H locs := h.swap
  refine z_aload_n E dL_law_161 hl 2 rfl ?_
  refine z_callL (n := 0) (rest := [.int (zI z1)]) E h (E.2.2.2.2.2.2.2.2.sub [2] rfl) (mM_learn l D adm cJ T N  hT) q272 q273 q274 q34 q275 (by decide +kernel) ⟨Nat.le_of_ble_eq_true rfl, Nat.le_of_ble_eq_true rfl⟩ ⟨Nat.le_of_ble_eq_true rfl, Nat.le_of_ble_eq_true rfl⟩ rfl rfl rfl hl.1 (Nat.le_of_ble_eq_true rfl) rfl dL_law_162 (fun z2 u2 H locs e2 h => ?_)
  have h : ZH D (fun q : Nat => s.heap.size ≤ q) s.heap (wX adx cI cB (tLe T) u1 O ++ wM adm cJ (tLe T) N) H locs := h.swap
  refine lv_icmp_eq (tgt := 327) E.1 E.2.1 dL_law_165 (by decide) (fun _ => ?_) (fun q => absurd (congrArg zI (show z1 = z2 from e1.1.trans e2.symm)) q)
  exact next (tLe T) u1 O N H locs (TOk_le hT) e1.2 hO hN h
set_option maxHeartbeats 4000000 in
set_option maxRecDepth 100000 in
theorem law_forget {p : Program} {l : Launch} {e : Env} {s : State} {m : MethodId} {below : List Frame} {meth : Method} {c : Code} {D : va_G} {adx adm : Nat → Nat} {cI cB cJ : ClassId} {b L : Nat} {xs : Nat → Int32} (hL : L ≤ 128) (E : Fx p s m #[Value.ref b] meth c D [(cI, .int), (cB, .byte), (cJ, .int)] (fun q : Nat => s.heap.size ≤ q) code 4 ret R_law) (hX : va_X b L xs s s.heap) (hbl : b < s.heap.size) {i : Int} (hi : 0 ≤ i ∧ i + 1 < (L : Int)) {T : TT} {C : CC} {O : OO} {N : NN} {H : Heap} {locs : List Loc} {ls : Array Slot} (hT : TOk T) (hI : CInv T C) (hO : OB O) (hN : NB N) (h : ZH D (fun q : Nat => s.heap.size ≤ q) s.heap (wX adx cI cB T C O ++ wM adm cJ T N) H locs) (hl : lv_has ls 4 [(0, .ref b), (1, .ref (adx 0)), (2, .ref (adm 0)), (3, .int (zI i))]) (next : (∀ (T : TT) (C : CC) (O : OO) (N : NN) (H : Heap) (locs : List Loc), TOk T → CInv T C → OB O → NB N → ZH D (fun q : Nat => s.heap.size ≤ q) s.heap (wX adx cI cB T C O ++ wM adm cJ T N) H locs → W p l e room_1 s m #[Value.ref b] below meth c H locs 17 5733 (lw_Z below #[Value.ref b] s) (F0 m 327 ls []))) : W p l e room_1 s m #[Value.ref b] below meth c H locs 17 5733 (lw_Z below #[Value.ref b] s) (F0 m 170 ls []) := by
  have hbA : ¬ (fun q : Nat => s.heap.size ≤ q) b := Nat.not_le.mpr hbl
  refine z_aload_n E dL_law_170 hl 1 rfl ?_
  refine z_callL (n := 0) (rest := []) E h (E.2.2.2.2.2.2.2.2.sub [0, 1] rfl) (mX_forget l D adx cI cB T C O  hT hI) q112 q113 q114 q33 q115 (by decide +kernel) ⟨Nat.le_of_ble_eq_true rfl, Nat.le_of_ble_eq_true rfl⟩ ⟨Nat.le_of_ble_eq_true rfl, Nat.le_of_ble_eq_true rfl⟩ rfl rfl rfl hl.1 (Nat.le_of_ble_eq_true rfl) rfl dL_law_171 (fun z1 u1 H locs e1 h => ?_)
  have h : ZH D (fun q : Nat => s.heap.size ≤ q) s.heap (wM adm cJ T N ++ wX adx cI cB (tFo T) u1 O) H locs := h.swap
  refine z_aload_n E dL_law_174 hl 2 rfl ?_
  refine z_callL (n := 0) (rest := [.int (zI z1)]) E h (E.2.2.2.2.2.2.2.2.sub [2] rfl) (mM_forget l D adm cJ T N  hT) q276 q277 q278 q34 q279 (by decide +kernel) ⟨Nat.le_of_ble_eq_true rfl, Nat.le_of_ble_eq_true rfl⟩ ⟨Nat.le_of_ble_eq_true rfl, Nat.le_of_ble_eq_true rfl⟩ rfl rfl rfl hl.1 (Nat.le_of_ble_eq_true rfl) rfl dL_law_175 (fun z2 u2 H locs e2 h => ?_)
  have h : ZH D (fun q : Nat => s.heap.size ≤ q) s.heap (wX adx cI cB (tFo T) u1 O ++ wM adm cJ (tFo T) N) H locs := h.swap
  refine lv_icmp_eq (tgt := 327) E.1 E.2.1 dL_law_178 (by decide) (fun _ => ?_) (fun q => absurd (congrArg zI (show z1 = z2 from e1.1.trans e2.symm)) q)
  exact next (tFo T) u1 O N H locs (TOk_fo hT) e1.2 hO hN h
set_option maxHeartbeats 4000000 in
set_option maxRecDepth 100000 in
theorem law_least {p : Program} {l : Launch} {e : Env} {s : State} {m : MethodId} {below : List Frame} {meth : Method} {c : Code} {D : va_G} {adx adm : Nat → Nat} {cI cB cJ : ClassId} {b L : Nat} {xs : Nat → Int32} (hL : L ≤ 128) (E : Fx p s m #[Value.ref b] meth c D [(cI, .int), (cB, .byte), (cJ, .int)] (fun q : Nat => s.heap.size ≤ q) code 4 ret R_law) (hX : va_X b L xs s s.heap) (hbl : b < s.heap.size) {i : Int} (hi : 0 ≤ i ∧ i + 1 < (L : Int)) {T : TT} {C : CC} {O : OO} {N : NN} {H : Heap} {locs : List Loc} {ls : Array Slot} (hT : TOk T) (hI : CInv T C) (hO : OB O) (hN : NB N) (h : ZH D (fun q : Nat => s.heap.size ≤ q) s.heap (wX adx cI cB T C O ++ wM adm cJ T N) H locs) (hl : lv_has ls 4 [(0, .ref b), (1, .ref (adx 0)), (2, .ref (adm 0)), (3, .int (zI i))]) (next : (∀ (T : TT) (C : CC) (O : OO) (N : NN) (H : Heap) (locs : List Loc), TOk T → CInv T C → OB O → NB N → ZH D (fun q : Nat => s.heap.size ≤ q) s.heap (wX adx cI cB T C O ++ wM adm cJ T N) H locs → W p l e room_1 s m #[Value.ref b] below meth c H locs 17 5733 (lw_Z below #[Value.ref b] s) (F0 m 327 ls []))) : W p l e room_1 s m #[Value.ref b] below meth c H locs 17 5733 (lw_Z below #[Value.ref b] s) (F0 m 183 ls []) := by
  have hbA : ¬ (fun q : Nat => s.heap.size ≤ q) b := Nat.not_le.mpr hbl
  refine z_aload_n E dL_law_183 hl 1 rfl ?_
  refine z_callL (n := 0) (rest := []) E h (E.2.2.2.2.2.2.2.2.sub [0, 1] rfl) (mX_least l D adx cI cB T C O  hT hI) q116 q117 q118 q33 q119 (by decide +kernel) ⟨Nat.le_of_ble_eq_true rfl, Nat.le_of_ble_eq_true rfl⟩ ⟨Nat.le_of_ble_eq_true rfl, Nat.le_of_ble_eq_true rfl⟩ rfl rfl rfl hl.1 (Nat.le_of_ble_eq_true rfl) rfl dL_law_184 (fun z1 u1 H locs e1 h => ?_)
  have h : ZH D (fun q : Nat => s.heap.size ≤ q) s.heap (wM adm cJ T N ++ wX adx cI cB T u1 O) H locs := h.swap
  refine z_aload_n E dL_law_187 hl 2 rfl ?_
  refine z_callL (n := 0) (rest := [.int (zI z1)]) E h (E.2.2.2.2.2.2.2.2.sub [2] rfl) (mM_least l D adm cJ T N  hT hN) q280 q281 q282 q34 q283 (by decide +kernel) ⟨Nat.le_of_ble_eq_true rfl, Nat.le_of_ble_eq_true rfl⟩ ⟨Nat.le_of_ble_eq_true rfl, Nat.le_of_ble_eq_true rfl⟩ rfl rfl rfl hl.1 (Nat.le_of_ble_eq_true rfl) rfl dL_law_188 (fun z2 u2 H locs e2 h => ?_)
  have h : ZH D (fun q : Nat => s.heap.size ≤ q) s.heap (wX adx cI cB T u1 O ++ wM adm cJ T (u2.1, u2.2.1, u2.2.2, N.2.2.2)) H locs := h.swap
  refine lv_icmp_eq (tgt := 327) E.1 E.2.1 dL_law_191 (by decide) (fun _ => ?_) (fun q => absurd (congrArg zI (show z1 = z2 from e1.1.trans e2.1.symm)) q)
  exact next T u1 O (u2.1, u2.2.1, u2.2.2, N.2.2.2) H locs hT e1.2 hO e2.2.2 h
set_option maxHeartbeats 4000000 in
set_option maxRecDepth 100000 in
theorem law_programs {p : Program} {l : Launch} {e : Env} {s : State} {m : MethodId} {below : List Frame} {meth : Method} {c : Code} {D : va_G} {adx adm : Nat → Nat} {cI cB cJ : ClassId} {b L : Nat} {xs : Nat → Int32} (hL : L ≤ 128) (E : Fx p s m #[Value.ref b] meth c D [(cI, .int), (cB, .byte), (cJ, .int)] (fun q : Nat => s.heap.size ≤ q) code 4 ret R_law) (hX : va_X b L xs s s.heap) (hbl : b < s.heap.size) {i : Int} (hi : 0 ≤ i ∧ i + 1 < (L : Int)) {T : TT} {C : CC} {O : OO} {N : NN} {H : Heap} {locs : List Loc} {ls : Array Slot} (hT : TOk T) (hI : CInv T C) (hO : OB O) (hN : NB N) (h : ZH D (fun q : Nat => s.heap.size ≤ q) s.heap (wX adx cI cB T C O ++ wM adm cJ T N) H locs) (hl : lv_has ls 4 [(0, .ref b), (1, .ref (adx 0)), (2, .ref (adm 0)), (3, .int (zI i))]) (next : (∀ (T : TT) (C : CC) (O : OO) (N : NN) (H : Heap) (locs : List Loc), TOk T → CInv T C → OB O → NB N → ZH D (fun q : Nat => s.heap.size ≤ q) s.heap (wX adx cI cB T C O ++ wM adm cJ T N) H locs → W p l e room_1 s m #[Value.ref b] below meth c H locs 17 5733 (lw_Z below #[Value.ref b] s) (F0 m 327 ls []))) : W p l e room_1 s m #[Value.ref b] below meth c H locs 17 5733 (lw_Z below #[Value.ref b] s) (F0 m 196 ls []) := by
  have hbA : ¬ (fun q : Nat => s.heap.size ≤ q) b := Nat.not_le.mpr hbl
  refine z_aload_n E dL_law_196 hl 1 rfl ?_
  refine z_aload_n E dL_law_197 hl 0 rfl ?_
  refine z_iload_n E dL_law_198 hl 3 rfl ?_
  refine z_iconst E dL_law_199 ?_
  refine z_iadd E dL_law_200 ?_
  refine z_sld E h hX hbl hbA (by omega) (by omega) dL_law_201 ?_
  refine z_callL (n := 1) (rest := []) E h (E.2.2.2.2.2.2.2.2.sub [0, 1] rfl) (mX_programs l D adx cI cB T C O (sv xs (i + 1)) hT hI (sv_rg xs (i + 1))) q178 q179 q180 q33 q181 (by decide +kernel) ⟨Nat.le_of_ble_eq_true rfl, Nat.le_of_ble_eq_true rfl⟩ ⟨Nat.le_of_ble_eq_true rfl, Nat.le_of_ble_eq_true rfl⟩ rfl rfl rfl hl.1 (Nat.le_of_ble_eq_true rfl) rfl dL_law_202 (fun z1 u1 H locs e1 h => ?_)
  have h : ZH D (fun q : Nat => s.heap.size ≤ q) s.heap (wM adm cJ T N ++ wX adx cI cB T u1 O) H locs := h.swap
  refine z_aload_n E dL_law_205 hl 2 rfl ?_
  refine z_aload_n E dL_law_206 hl 0 rfl ?_
  refine z_iload_n E dL_law_207 hl 3 rfl ?_
  refine z_iconst E dL_law_208 ?_
  refine z_iadd E dL_law_209 ?_
  refine z_sld E h hX hbl hbA (by omega) (by omega) dL_law_210 ?_
  refine z_callL (n := 1) (rest := [.int (zI z1)]) E h (E.2.2.2.2.2.2.2.2.sub [2] rfl) (mM_programs l D adm cJ T N (sv xs (i + 1)) hT hN (sv_rg xs (i + 1))) q330 q331 q332 q34 q333 (by decide +kernel) ⟨Nat.le_of_ble_eq_true rfl, Nat.le_of_ble_eq_true rfl⟩ ⟨Nat.le_of_ble_eq_true rfl, Nat.le_of_ble_eq_true rfl⟩ rfl rfl rfl hl.1 (Nat.le_of_ble_eq_true rfl) rfl dL_law_211 (fun z2 u2 H locs e2 h => ?_)
  have h : ZH D (fun q : Nat => s.heap.size ≤ q) s.heap (wX adx cI cB T u1 O ++ wM adm cJ T (u2.1, u2.2.1, u2.2.2, N.2.2.2)) H locs := h.swap
  refine lv_icmp_eq (tgt := 327) E.1 E.2.1 dL_law_214 (by decide) (fun _ => ?_) (fun q => absurd (congrArg zI (show z1 = z2 from e1.1.trans e2.1.symm)) q)
  exact next T u1 O (u2.1, u2.2.1, u2.2.2, N.2.2.2) H locs hT e1.2 hO e2.2 h
set_option maxHeartbeats 4000000 in
set_option maxRecDepth 100000 in
theorem law_atom {p : Program} {l : Launch} {e : Env} {s : State} {m : MethodId} {below : List Frame} {meth : Method} {c : Code} {D : va_G} {adx adm : Nat → Nat} {cI cB cJ : ClassId} {b L : Nat} {xs : Nat → Int32} (hL : L ≤ 128) (E : Fx p s m #[Value.ref b] meth c D [(cI, .int), (cB, .byte), (cJ, .int)] (fun q : Nat => s.heap.size ≤ q) code 4 ret R_law) (hX : va_X b L xs s s.heap) (hbl : b < s.heap.size) {i : Int} (hi : 0 ≤ i ∧ i + 1 < (L : Int)) {T : TT} {C : CC} {O : OO} {N : NN} {H : Heap} {locs : List Loc} {ls : Array Slot} (hT : TOk T) (hI : CInv T C) (hO : OB O) (hN : NB N) (h : ZH D (fun q : Nat => s.heap.size ≤ q) s.heap (wX adx cI cB T C O ++ wM adm cJ T N) H locs) (hl : lv_has ls 4 [(0, .ref b), (1, .ref (adx 0)), (2, .ref (adm 0)), (3, .int (zI i))]) (next : (∀ (T : TT) (C : CC) (O : OO) (N : NN) (H : Heap) (locs : List Loc), TOk T → CInv T C → OB O → NB N → ZH D (fun q : Nat => s.heap.size ≤ q) s.heap (wX adx cI cB T C O ++ wM adm cJ T N) H locs → W p l e room_1 s m #[Value.ref b] below meth c H locs 17 5733 (lw_Z below #[Value.ref b] s) (F0 m 327 ls []))) : W p l e room_1 s m #[Value.ref b] below meth c H locs 17 5733 (lw_Z below #[Value.ref b] s) (F0 m 219 ls []) := by
  have hbA : ¬ (fun q : Nat => s.heap.size ≤ q) b := Nat.not_le.mpr hbl
  refine z_aload_n E dL_law_219 hl 1 rfl ?_
  refine z_aload_n E dL_law_220 hl 0 rfl ?_
  refine z_iload_n E dL_law_221 hl 3 rfl ?_
  refine z_iconst E dL_law_222 ?_
  refine z_iadd E dL_law_223 ?_
  refine z_sld E h hX hbl hbA (by omega) (by omega) dL_law_224 ?_
  refine z_callL (n := 1) (rest := []) E h (E.2.2.2.2.2.2.2.2.sub [0, 1] rfl) (mX_atom l D adx cI cB T C O (sv xs (i + 1)) hT hI hO (sv_rg xs (i + 1))) q182 q183 q184 q33 q185 (by decide +kernel) ⟨Nat.le_of_ble_eq_true rfl, Nat.le_of_ble_eq_true rfl⟩ ⟨Nat.le_of_ble_eq_true rfl, Nat.le_of_ble_eq_true rfl⟩ rfl rfl rfl hl.1 (Nat.le_of_ble_eq_true rfl) rfl dL_law_225 (fun z1 u1 H locs e1 h => ?_)
  have h : ZH D (fun q : Nat => s.heap.size ≤ q) s.heap (wM adm cJ T N ++ wX adx cI cB T u1.1 (lc T, u1.2, O.2.2.1, O.2.2.2)) H locs := h.swap
  refine z_aload_n E dL_law_228 hl 2 rfl ?_
  refine z_aload_n E dL_law_229 hl 0 rfl ?_
  refine z_iload_n E dL_law_230 hl 3 rfl ?_
  refine z_iconst E dL_law_231 ?_
  refine z_iadd E dL_law_232 ?_
  refine z_sld E h hX hbl hbA (by omega) (by omega) dL_law_233 ?_
  refine z_callL (n := 1) (rest := [.int (zI z1)]) E h (E.2.2.2.2.2.2.2.2.sub [2] rfl) (mM_atom l D adm cJ T N (sv xs (i + 1)) hT hN (sv_rg xs (i + 1))) q334 q335 q336 q34 q337 (by decide +kernel) ⟨Nat.le_of_ble_eq_true rfl, Nat.le_of_ble_eq_true rfl⟩ ⟨Nat.le_of_ble_eq_true rfl, Nat.le_of_ble_eq_true rfl⟩ rfl rfl rfl hl.1 (Nat.le_of_ble_eq_true rfl) rfl dL_law_234 (fun z2 u2 H locs e2 h => ?_)
  have h : ZH D (fun q : Nat => s.heap.size ≤ q) s.heap (wX adx cI cB T u1.1 (lc T, u1.2, O.2.2.1, O.2.2.2) ++ wM adm cJ T (u2.1, u2.2.1, u2.2.2, N.2.2.2)) H locs := h.swap
  refine lv_icmp_eq (tgt := 327) E.1 E.2.1 dL_law_237 (by decide) (fun _ => ?_) (fun q => absurd (congrArg zI (show z1 = z2 from e1.1.trans e2.1.symm)) q)
  exact next T u1.1 (lc T, u1.2, O.2.2.1, O.2.2.2) (u2.1, u2.2.1, u2.2.2, N.2.2.2) H locs hT e1.2.1 ⟨⟨(lc_bd T).1, (lc_bd T).2.1⟩, e1.2.2, hO.2.2⟩ e2.2 h
set_option maxHeartbeats 4000000 in
set_option maxRecDepth 100000 in
theorem law_can {p : Program} {l : Launch} {e : Env} {s : State} {m : MethodId} {below : List Frame} {meth : Method} {c : Code} {D : va_G} {adx adm : Nat → Nat} {cI cB cJ : ClassId} {b L : Nat} {xs : Nat → Int32} (hL : L ≤ 128) (E : Fx p s m #[Value.ref b] meth c D [(cI, .int), (cB, .byte), (cJ, .int)] (fun q : Nat => s.heap.size ≤ q) code 4 ret R_law) (hX : va_X b L xs s s.heap) (hbl : b < s.heap.size) {i : Int} (hi : 0 ≤ i ∧ i + 1 < (L : Int)) {T : TT} {C : CC} {O : OO} {N : NN} {H : Heap} {locs : List Loc} {ls : Array Slot} (hT : TOk T) (hI : CInv T C) (hO : OB O) (hN : NB N) (h : ZH D (fun q : Nat => s.heap.size ≤ q) s.heap (wX adx cI cB T C O ++ wM adm cJ T N) H locs) (hl : lv_has ls 4 [(0, .ref b), (1, .ref (adx 0)), (2, .ref (adm 0)), (3, .int (zI i))]) (next : (∀ (T : TT) (C : CC) (O : OO) (N : NN) (H : Heap) (locs : List Loc), TOk T → CInv T C → OB O → NB N → ZH D (fun q : Nat => s.heap.size ≤ q) s.heap (wX adx cI cB T C O ++ wM adm cJ T N) H locs → W p l e room_1 s m #[Value.ref b] below meth c H locs 17 5733 (lw_Z below #[Value.ref b] s) (F0 m 327 ls []))) : W p l e room_1 s m #[Value.ref b] below meth c H locs 17 5733 (lw_Z below #[Value.ref b] s) (F0 m 242 ls []) := by
  have hbA : ¬ (fun q : Nat => s.heap.size ≤ q) b := Nat.not_le.mpr hbl
  refine z_aload_n E dL_law_242 hl 1 rfl ?_
  refine z_callL (n := 0) (rest := []) E h (E.2.2.2.2.2.2.2.2.sub [0, 1] rfl) (mX_can l D adx cI cB T C O  hT hI) q194 q195 q196 q33 q197 (by decide +kernel) ⟨Nat.le_of_ble_eq_true rfl, Nat.le_of_ble_eq_true rfl⟩ ⟨Nat.le_of_ble_eq_true rfl, Nat.le_of_ble_eq_true rfl⟩ rfl rfl rfl hl.1 (Nat.le_of_ble_eq_true rfl) rfl dL_law_243 (fun z1 u1 H locs e1 h => ?_)
  have h : ZH D (fun q : Nat => s.heap.size ≤ q) s.heap (wM adm cJ T N ++ wX adx cI cB T u1 O) H locs := h.swap
  refine z_aload_n E dL_law_246 hl 2 rfl ?_
  refine z_callL (n := 0) (rest := [.int (zI z1)]) E h (E.2.2.2.2.2.2.2.2.sub [2] rfl) (mM_can l D adm cJ T N  hT hN) q339 q340 q341 q34 q342 (by decide +kernel) ⟨Nat.le_of_ble_eq_true rfl, Nat.le_of_ble_eq_true rfl⟩ ⟨Nat.le_of_ble_eq_true rfl, Nat.le_of_ble_eq_true rfl⟩ rfl rfl rfl hl.1 (Nat.le_of_ble_eq_true rfl) rfl dL_law_247 (fun z2 u2 H locs e2 h => ?_)
  have h : ZH D (fun q : Nat => s.heap.size ≤ q) s.heap (wX adx cI cB T u1 O ++ wM adm cJ T (u2.1, u2.2.1, u2.2.2, N.2.2.2)) H locs := h.swap
  refine lv_icmp_eq (tgt := 327) E.1 E.2.1 dL_law_250 (by decide) (fun _ => ?_) (fun q => absurd (congrArg zI (show z1 = z2 from e1.1.trans e2.1.symm)) q)
  exact next T u1 O (u2.1, u2.2.1, u2.2.2, N.2.2.2) H locs hT e1.2 hO e2.2 h
set_option maxHeartbeats 4000000 in
set_option maxRecDepth 100000 in
theorem law_ways {p : Program} {l : Launch} {e : Env} {s : State} {m : MethodId} {below : List Frame} {meth : Method} {c : Code} {D : va_G} {adx adm : Nat → Nat} {cI cB cJ : ClassId} {b L : Nat} {xs : Nat → Int32} (hL : L ≤ 128) (E : Fx p s m #[Value.ref b] meth c D [(cI, .int), (cB, .byte), (cJ, .int)] (fun q : Nat => s.heap.size ≤ q) code 4 ret R_law) (hX : va_X b L xs s s.heap) (hbl : b < s.heap.size) {i : Int} (hi : 0 ≤ i ∧ i + 1 < (L : Int)) {T : TT} {C : CC} {O : OO} {N : NN} {H : Heap} {locs : List Loc} {ls : Array Slot} (hT : TOk T) (hI : CInv T C) (hO : OB O) (hN : NB N) (h : ZH D (fun q : Nat => s.heap.size ≤ q) s.heap (wX adx cI cB T C O ++ wM adm cJ T N) H locs) (hl : lv_has ls 4 [(0, .ref b), (1, .ref (adx 0)), (2, .ref (adm 0)), (3, .int (zI i))]) (next : (∀ (T : TT) (C : CC) (O : OO) (N : NN) (H : Heap) (locs : List Loc), TOk T → CInv T C → OB O → NB N → ZH D (fun q : Nat => s.heap.size ≤ q) s.heap (wX adx cI cB T C O ++ wM adm cJ T N) H locs → W p l e room_1 s m #[Value.ref b] below meth c H locs 17 5733 (lw_Z below #[Value.ref b] s) (F0 m 327 ls []))) : W p l e room_1 s m #[Value.ref b] below meth c H locs 17 5733 (lw_Z below #[Value.ref b] s) (F0 m 255 ls []) := by
  have hbA : ¬ (fun q : Nat => s.heap.size ≤ q) b := Nat.not_le.mpr hbl
  refine z_aload_n E dL_law_255 hl 1 rfl ?_
  refine z_callL (n := 0) (rest := []) E h (E.2.2.2.2.2.2.2.2.sub [0, 1] rfl) (mX_ways l D adx cI cB T C O  hT hI) q202 q203 q204 q33 q205 (by decide +kernel) ⟨Nat.le_of_ble_eq_true rfl, Nat.le_of_ble_eq_true rfl⟩ ⟨Nat.le_of_ble_eq_true rfl, Nat.le_of_ble_eq_true rfl⟩ rfl rfl rfl hl.1 (Nat.le_of_ble_eq_true rfl) rfl dL_law_256 (fun z1 u1 H locs e1 h => ?_)
  have h : ZH D (fun q : Nat => s.heap.size ≤ q) s.heap (wM adm cJ T N ++ wX adx cI cB T u1 O) H locs := h.swap
  refine z_aload_n E dL_law_259 hl 2 rfl ?_
  refine z_callL (n := 0) (rest := [.int (zI z1)]) E h (E.2.2.2.2.2.2.2.2.sub [2] rfl) (mM_ways l D adm cJ T N  hT hN) q347 q344 q345 q34 q346 (by decide +kernel) ⟨Nat.le_of_ble_eq_true rfl, Nat.le_of_ble_eq_true rfl⟩ ⟨Nat.le_of_ble_eq_true rfl, Nat.le_of_ble_eq_true rfl⟩ rfl rfl rfl hl.1 (Nat.le_of_ble_eq_true rfl) rfl dL_law_260 (fun z2 u2 H locs e2 h => ?_)
  have h : ZH D (fun q : Nat => s.heap.size ≤ q) s.heap (wX adx cI cB T u1 O ++ wM adm cJ T (u2.1, u2.2.1, u2.2.2, N.2.2.2)) H locs := h.swap
  refine lv_icmp_eq (tgt := 327) E.1 E.2.1 dL_law_263 (by decide) (fun _ => ?_) (fun q => absurd (congrArg zI (show z1 = z2 from e1.1.trans e2.1.symm)) q)
  exact next T u1 O (u2.1, u2.2.1, u2.2.2, N.2.2.2) H locs hT e1.2 hO e2.2 h
set_option maxHeartbeats 4000000 in
set_option maxRecDepth 100000 in
theorem law_resultLength {p : Program} {l : Launch} {e : Env} {s : State} {m : MethodId} {below : List Frame} {meth : Method} {c : Code} {D : va_G} {adx adm : Nat → Nat} {cI cB cJ : ClassId} {b L : Nat} {xs : Nat → Int32} (hL : L ≤ 128) (E : Fx p s m #[Value.ref b] meth c D [(cI, .int), (cB, .byte), (cJ, .int)] (fun q : Nat => s.heap.size ≤ q) code 4 ret R_law) (hX : va_X b L xs s s.heap) (hbl : b < s.heap.size) {i : Int} (hi : 0 ≤ i ∧ i + 1 < (L : Int)) {T : TT} {C : CC} {O : OO} {N : NN} {H : Heap} {locs : List Loc} {ls : Array Slot} (hT : TOk T) (hI : CInv T C) (hO : OB O) (hN : NB N) (h : ZH D (fun q : Nat => s.heap.size ≤ q) s.heap (wX adx cI cB T C O ++ wM adm cJ T N) H locs) (hl : lv_has ls 4 [(0, .ref b), (1, .ref (adx 0)), (2, .ref (adm 0)), (3, .int (zI i))]) (next : (∀ (T : TT) (C : CC) (O : OO) (N : NN) (H : Heap) (locs : List Loc), TOk T → CInv T C → OB O → NB N → ZH D (fun q : Nat => s.heap.size ≤ q) s.heap (wX adx cI cB T C O ++ wM adm cJ T N) H locs → W p l e room_1 s m #[Value.ref b] below meth c H locs 17 5733 (lw_Z below #[Value.ref b] s) (F0 m 327 ls []))) : W p l e room_1 s m #[Value.ref b] below meth c H locs 17 5733 (lw_Z below #[Value.ref b] s) (F0 m 268 ls []) := by
  have hbA : ¬ (fun q : Nat => s.heap.size ≤ q) b := Nat.not_le.mpr hbl
  refine z_aload_n E dL_law_268 hl 1 rfl ?_
  refine z_callL (n := 0) (rest := []) E h (E.2.2.2.2.2.2.2.2.sub [0, 1] rfl) (mX_resultLength l D adx cI cB T C O  hT hI hO) q206 q207 q208 q33 q209 (by decide +kernel) ⟨Nat.le_of_ble_eq_true rfl, Nat.le_of_ble_eq_true rfl⟩ ⟨Nat.le_of_ble_eq_true rfl, Nat.le_of_ble_eq_true rfl⟩ rfl rfl rfl hl.1 (Nat.le_of_ble_eq_true rfl) rfl dL_law_269 (fun z1 u1 H locs e1 h => ?_)
  have h : ZH D (fun q : Nat => s.heap.size ≤ q) s.heap (wM adm cJ T N ++ wX adx cI cB T u1.1 (lc T, u1.2.1, u1.2.2.1, u1.2.2.2)) H locs := h.swap
  refine z_aload_n E dL_law_272 hl 2 rfl ?_
  refine z_callL (n := 0) (rest := [.int (zI z1)]) E h (E.2.2.2.2.2.2.2.2.sub [2] rfl) (mM_resultLength l D adm cJ T N  hT hN) q348 q349 q350 q34 q351 (by decide +kernel) ⟨Nat.le_of_ble_eq_true rfl, Nat.le_of_ble_eq_true rfl⟩ ⟨Nat.le_of_ble_eq_true rfl, Nat.le_of_ble_eq_true rfl⟩ rfl rfl rfl hl.1 (Nat.le_of_ble_eq_true rfl) rfl dL_law_273 (fun z2 u2 H locs e2 h => ?_)
  have h : ZH D (fun q : Nat => s.heap.size ≤ q) s.heap (wX adx cI cB T u1.1 (lc T, u1.2.1, u1.2.2.1, u1.2.2.2) ++ wM adm cJ T u2) H locs := h.swap
  refine lv_icmp_eq (tgt := 327) E.1 E.2.1 dL_law_276 (by decide) (fun _ => ?_) (fun q => absurd (congrArg zI (show z1 = z2 from e1.1.trans e2.1.symm)) q)
  exact next T u1.1 (lc T, u1.2.1, u1.2.2.1, u1.2.2.2) u2 H locs hT e1.2.1 ⟨⟨(lc_bd T).1, (lc_bd T).2.1⟩, e1.2.2.1, e1.2.2.2⟩ e2.2 h
set_option maxHeartbeats 4000000 in
set_option maxRecDepth 100000 in
theorem law_result {p : Program} {l : Launch} {e : Env} {s : State} {m : MethodId} {below : List Frame} {meth : Method} {c : Code} {D : va_G} {adx adm : Nat → Nat} {cI cB cJ : ClassId} {b L : Nat} {xs : Nat → Int32} (hL : L ≤ 128) (E : Fx p s m #[Value.ref b] meth c D [(cI, .int), (cB, .byte), (cJ, .int)] (fun q : Nat => s.heap.size ≤ q) code 4 ret R_law) (hX : va_X b L xs s s.heap) (hbl : b < s.heap.size) {i : Int} (hi : 0 ≤ i ∧ i + 1 < (L : Int)) {T : TT} {C : CC} {O : OO} {N : NN} {H : Heap} {locs : List Loc} {ls : Array Slot} (hT : TOk T) (hI : CInv T C) (hO : OB O) (hN : NB N) (h : ZH D (fun q : Nat => s.heap.size ≤ q) s.heap (wX adx cI cB T C O ++ wM adm cJ T N) H locs) (hl : lv_has ls 4 [(0, .ref b), (1, .ref (adx 0)), (2, .ref (adm 0)), (3, .int (zI i))]) (next : (∀ (T : TT) (C : CC) (O : OO) (N : NN) (H : Heap) (locs : List Loc), TOk T → CInv T C → OB O → NB N → ZH D (fun q : Nat => s.heap.size ≤ q) s.heap (wX adx cI cB T C O ++ wM adm cJ T N) H locs → W p l e room_1 s m #[Value.ref b] below meth c H locs 17 5733 (lw_Z below #[Value.ref b] s) (F0 m 327 ls []))) : W p l e room_1 s m #[Value.ref b] below meth c H locs 17 5733 (lw_Z below #[Value.ref b] s) (F0 m 281 ls []) := by
  have hbA : ¬ (fun q : Nat => s.heap.size ≤ q) b := Nat.not_le.mpr hbl
  refine z_aload_n E dL_law_281 hl 1 rfl ?_
  refine z_aload_n E dL_law_282 hl 0 rfl ?_
  refine z_iload_n E dL_law_283 hl 3 rfl ?_
  refine z_iconst E dL_law_284 ?_
  refine z_iadd E dL_law_285 ?_
  refine z_sld E h hX hbl hbA (by omega) (by omega) dL_law_286 ?_
  refine z_callL (n := 1) (rest := []) E h (E.2.2.2.2.2.2.2.2.sub [0, 1] rfl) (mX_result l D adx cI cB T C O (sv xs (i + 1)) hT hI hO (sv_rg xs (i + 1))) q214 q215 q216 q33 q217 (by decide +kernel) ⟨Nat.le_of_ble_eq_true rfl, Nat.le_of_ble_eq_true rfl⟩ ⟨Nat.le_of_ble_eq_true rfl, Nat.le_of_ble_eq_true rfl⟩ rfl rfl rfl hl.1 (Nat.le_of_ble_eq_true rfl) rfl dL_law_287 (fun z1 u1 H locs e1 h => ?_)
  have h : ZH D (fun q : Nat => s.heap.size ≤ q) s.heap (wM adm cJ T N ++ wX adx cI cB T u1.1 (lc T, u1.2.1, u1.2.2.1, u1.2.2.2)) H locs := h.swap
  refine z_aload_n E dL_law_290 hl 2 rfl ?_
  refine z_aload_n E dL_law_291 hl 0 rfl ?_
  refine z_iload_n E dL_law_292 hl 3 rfl ?_
  refine z_iconst E dL_law_293 ?_
  refine z_iadd E dL_law_294 ?_
  refine z_sld E h hX hbl hbA (by omega) (by omega) dL_law_295 ?_
  refine z_callL (n := 1) (rest := [.int (zI z1)]) E h (E.2.2.2.2.2.2.2.2.sub [2] rfl) (mM_result l D adm cJ T N (sv xs (i + 1)) hT hN (sv_rg xs (i + 1))) q356 q357 q358 q34 q359 (by decide +kernel) ⟨Nat.le_of_ble_eq_true rfl, Nat.le_of_ble_eq_true rfl⟩ ⟨Nat.le_of_ble_eq_true rfl, Nat.le_of_ble_eq_true rfl⟩ rfl rfl rfl hl.1 (Nat.le_of_ble_eq_true rfl) rfl dL_law_296 (fun z2 u2 H locs e2 h => ?_)
  have h : ZH D (fun q : Nat => s.heap.size ≤ q) s.heap (wX adx cI cB T u1.1 (lc T, u1.2.1, u1.2.2.1, u1.2.2.2) ++ wM adm cJ T u2) H locs := h.swap
  refine lv_icmp_eq (tgt := 327) E.1 E.2.1 dL_law_299 (by decide) (fun _ => ?_) (fun q => absurd (congrArg zI (show z1 = z2 from e1.1.trans e2.1.symm)) q)
  exact next T u1.1 (lc T, u1.2.1, u1.2.2.1, u1.2.2.2) u2 H locs hT e1.2.1 ⟨⟨(lc_bd T).1, (lc_bd T).2.1⟩, e1.2.2.1, e1.2.2.2⟩ e2.2 h
set_option maxHeartbeats 4000000 in
set_option maxRecDepth 100000 in
theorem law_right {p : Program} {l : Launch} {e : Env} {s : State} {m : MethodId} {below : List Frame} {meth : Method} {c : Code} {D : va_G} {adx adm : Nat → Nat} {cI cB cJ : ClassId} {b L : Nat} {xs : Nat → Int32} (hL : L ≤ 128) (E : Fx p s m #[Value.ref b] meth c D [(cI, .int), (cB, .byte), (cJ, .int)] (fun q : Nat => s.heap.size ≤ q) code 4 ret R_law) (hX : va_X b L xs s s.heap) (hbl : b < s.heap.size) {i : Int} (hi : 0 ≤ i ∧ i + 1 < (L : Int)) {T : TT} {C : CC} {O : OO} {N : NN} {H : Heap} {locs : List Loc} {ls : Array Slot} (hT : TOk T) (hI : CInv T C) (hO : OB O) (hN : NB N) (h : ZH D (fun q : Nat => s.heap.size ≤ q) s.heap (wX adx cI cB T C O ++ wM adm cJ T N) H locs) (hl : lv_has ls 4 [(0, .ref b), (1, .ref (adx 0)), (2, .ref (adm 0)), (3, .int (zI i))]) (next : (∀ (T : TT) (C : CC) (O : OO) (N : NN) (H : Heap) (locs : List Loc), TOk T → CInv T C → OB O → NB N → ZH D (fun q : Nat => s.heap.size ≤ q) s.heap (wX adx cI cB T C O ++ wM adm cJ T N) H locs → W p l e room_1 s m #[Value.ref b] below meth c H locs 17 5733 (lw_Z below #[Value.ref b] s) (F0 m 327 ls []))) : W p l e room_1 s m #[Value.ref b] below meth c H locs 17 5733 (lw_Z below #[Value.ref b] s) (F0 m 304 ls []) := by
  have hbA : ¬ (fun q : Nat => s.heap.size ≤ q) b := Nat.not_le.mpr hbl
  refine z_aload_n E dL_law_304 hl 1 rfl ?_
  refine z_aload_n E dL_law_305 hl 0 rfl ?_
  refine z_iload_n E dL_law_306 hl 3 rfl ?_
  refine z_iconst E dL_law_307 ?_
  refine z_iadd E dL_law_308 ?_
  refine z_sld E h hX hbl hbA (by omega) (by omega) dL_law_309 ?_
  refine z_callL (n := 1) (rest := []) E h (E.2.2.2.2.2.2.2.2.sub [0, 1] rfl) (mX_right l D adx cI cB T C O (sv xs (i + 1)) hT hI (sv_rg xs (i + 1))) q218 q219 q220 q33 q221 (by decide +kernel) ⟨Nat.le_of_ble_eq_true rfl, Nat.le_of_ble_eq_true rfl⟩ ⟨Nat.le_of_ble_eq_true rfl, Nat.le_of_ble_eq_true rfl⟩ rfl rfl rfl hl.1 (Nat.le_of_ble_eq_true rfl) rfl dL_law_310 (fun z1 u1 H locs e1 h => ?_)
  have h : ZH D (fun q : Nat => s.heap.size ≤ q) s.heap (wM adm cJ T N ++ wX adx cI cB T u1 O) H locs := h.swap
  refine z_aload_n E dL_law_313 hl 2 rfl ?_
  refine z_aload_n E dL_law_314 hl 0 rfl ?_
  refine z_iload_n E dL_law_315 hl 3 rfl ?_
  refine z_iconst E dL_law_316 ?_
  refine z_iadd E dL_law_317 ?_
  refine z_sld E h hX hbl hbA (by omega) (by omega) dL_law_318 ?_
  refine z_callL (n := 1) (rest := [.int (zI z1)]) E h (E.2.2.2.2.2.2.2.2.sub [2] rfl) (mM_right l D adm cJ T N (sv xs (i + 1)) hT (sv_rg xs (i + 1))) q360 q361 q362 q34 q363 (by decide +kernel) ⟨Nat.le_of_ble_eq_true rfl, Nat.le_of_ble_eq_true rfl⟩ ⟨Nat.le_of_ble_eq_true rfl, Nat.le_of_ble_eq_true rfl⟩ rfl rfl rfl hl.1 (Nat.le_of_ble_eq_true rfl) rfl dL_law_319 (fun z2 u2 H locs e2 h => ?_)
  have h : ZH D (fun q : Nat => s.heap.size ≤ q) s.heap (wX adx cI cB T u1 O ++ wM adm cJ T N) H locs := h.swap
  refine lv_icmp_eq (tgt := 327) E.1 E.2.1 dL_law_322 (by decide) (fun _ => ?_) (fun q => absurd (congrArg zI (show z1 = z2 from by obtain ⟨a1, a2, -⟩ := e1; obtain ⟨b1, b2⟩ := e2; omega)) q)
  exact next T u1 O N H locs hT e1.2.2 hO hN h
end
section
set_option maxHeartbeats 4000000 in
set_option maxRecDepth 100000 in
theorem law_loop {p : Program} {l : Launch} {e : Env} {s : State} {m : MethodId} {below : List Frame} {meth : Method} {c : Code} {D : va_G} {adx adm : Nat → Nat} {cI cB cJ : ClassId} {b L : Nat} {xs : Nat → Int32} (hL : L ≤ 128) (E : Fx p s m #[Value.ref b] meth c D [(cI, .int), (cB, .byte), (cJ, .int)] (fun q : Nat => s.heap.size ≤ q) code 4 ret R_law) (hX : va_X b L xs s s.heap) (hbl : b < s.heap.size) : ∀ (n : Nat) (i : Int) (T : TT) (C : CC) (O : OO) (N : NN) (H : Heap) (locs : List Loc) (ls : Array Slot), (L : Int) + 2 - i < (n : Int) → (0 ≤ i ∧ i ≤ (L : Int) + 1) → TOk T → CInv T C → OB O → NB N → ZH D (fun q : Nat => s.heap.size ≤ q) s.heap (wX adx cI cB T C O ++ wM adm cJ T N) H locs → lv_has ls 4 [(0, .ref b), (1, .ref (adx 0)), (2, .ref (adm 0)), (3, .int (zI i))] → W p l e room_1 s m #[Value.ref b] below meth c H locs 17 5733 (lw_Z below #[Value.ref b] s) (F0 m 18 ls []) := by
  have hbA : ¬ (fun q : Nat => s.heap.size ≤ q) b := Nat.not_le.mpr hbl
  intro n
  induction n with
  | zero =>
    intro i T C O N H locs ls hm hi
    exfalso; omega
  | succ n ih =>
    intro i T C O N H locs ls hm hi hT hI hO hN h hl
    refine z_iload_n E dL_law_18 hl 3 rfl ?_
    refine z_aload_n E dL_law_19 hl 0 rfl ?_
    refine z_slen E h hX hbl hbA dL_law_20 ?_
    refine z_iconst E dL_law_21 ?_
    refine z_isub E dL_law_22 ?_
    refine z_icmp_gt E 333 dL_law_23 (by decide) (by omega) (fun c1 => ?_) (fun c1 => ?_)
    · refine lv_iconst (v := 1) E.1 E.2.1 dL_law_333 (by decide) ?_
      refine va_forget (fun q hq => h.2.2.2.2 q hq) ?_
      refine W.widen (k := 600000) (n := 7290000) (by decide) (by decide) ?_
      exact lw_ret E.1 E.2.1 E.2.2.2.1 E.2.2.2.2.1 dL_law_334
    · have c1 : i ≤ (L : Int) - 2 := c1
      have next : (∀ (T : TT) (C : CC) (O : OO) (N : NN) (H : Heap) (locs : List Loc), TOk T → CInv T C → OB O → NB N → ZH D (fun q : Nat => s.heap.size ≤ q) s.heap (wX adx cI cB T C O ++ wM adm cJ T N) H locs → W p l e room_1 s m #[Value.ref b] below meth c H locs 17 5733 (lw_Z below #[Value.ref b] s) (F0 m 327 ls [])) := by
        intro T C O N H locs hT hI hO hN h
        refine z_iinc E [(0, .ref b), (1, .ref (adx 0)), (2, .ref (adm 0)), (3, .int (zI (i + 2)))] dL_law_327 hl 3 rfl (by decide) [1, 2, 3, 0] rfl (fun ls hl => ?_)
        refine z_goto E 18 dL_law_330 (by decide) ?_
        exact ih (i + 2) T C O N H locs ls (by omega) (by omega) hT hI hO hN h hl
      refine z_aload_n E dL_law_26 hl 0 rfl ?_
      refine z_iload_n E dL_law_27 hl 3 rfl ?_
      refine z_sld E h hX hbl hbA (by omega) (by omega) dL_law_28 ?_
      refine z_bipush E dL_law_29 (by decide +kernel) ?_
      refine lv_iand E.1 E.2.1 dL_law_31 ?_
      obtain ⟨j, hj, ej⟩ := pk_andE (zI (sv xs i)) (m := zI 15) 4 (by decide +kernel)
      rw [ej]
      have hj : j < 16 := hj
      have hcase : j = 0 ∨ j = 1 ∨ j = 2 ∨ j = 3 ∨ j = 4 ∨ j = 5 ∨ j = 6 ∨ j = 7 ∨ j = 8 ∨ j = 9 ∨ j = 10 ∨ j = 11 ∨ j = 12 ∨ j = 13 ∨ j = 14 ∨ j = 15 := by omega
      rcases hcase with hj | hj | hj | hj | hj | hj | hj | hj | hj | hj | hj | hj | hj | hj | hj | hj
      · subst hj
        refine lv_tableIn (off := 68) (tgt := 100) E.1 E.2.1 dL_law_32 (by decide +kernel) (by decide +kernel) (by decide +kernel) (by decide) ?_
        exact law_typeIn hL E hX hbl (by omega) hT hI hO hN h hl next
      · subst hj
        refine lv_tableIn (off := 91) (tgt := 123) E.1 E.2.1 dL_law_32 (by decide +kernel) (by decide +kernel) (by decide +kernel) (by decide) ?_
        exact law_typeOut hL E hX hbl (by omega) hT hI hO hN h hl next
      · subst hj
        refine lv_tableIn (off := 114) (tgt := 146) E.1 E.2.1 dL_law_32 (by decide +kernel) (by decide +kernel) (by decide +kernel) (by decide) ?_
        exact law_erase hL E hX hbl (by omega) hT hI hO hN h hl next
      · subst hj
        refine lv_tableIn (off := 125) (tgt := 157) E.1 E.2.1 dL_law_32 (by decide +kernel) (by decide +kernel) (by decide +kernel) (by decide) ?_
        exact law_learn hL E hX hbl (by omega) hT hI hO hN h hl next
      · subst hj
        refine lv_tableIn (off := 138) (tgt := 170) E.1 E.2.1 dL_law_32 (by decide +kernel) (by decide +kernel) (by decide +kernel) (by decide) ?_
        exact law_forget hL E hX hbl (by omega) hT hI hO hN h hl next
      · subst hj
        refine lv_tableIn (off := 151) (tgt := 183) E.1 E.2.1 dL_law_32 (by decide +kernel) (by decide +kernel) (by decide +kernel) (by decide) ?_
        exact law_least hL E hX hbl (by omega) hT hI hO hN h hl next
      · subst hj
        refine lv_tableIn (off := 164) (tgt := 196) E.1 E.2.1 dL_law_32 (by decide +kernel) (by decide +kernel) (by decide +kernel) (by decide) ?_
        exact law_programs hL E hX hbl (by omega) hT hI hO hN h hl next
      · subst hj
        refine lv_tableIn (off := 187) (tgt := 219) E.1 E.2.1 dL_law_32 (by decide +kernel) (by decide +kernel) (by decide +kernel) (by decide) ?_
        exact law_atom hL E hX hbl (by omega) hT hI hO hN h hl next
      · subst hj
        refine lv_tableIn (off := 210) (tgt := 242) E.1 E.2.1 dL_law_32 (by decide +kernel) (by decide +kernel) (by decide +kernel) (by decide) ?_
        exact law_can hL E hX hbl (by omega) hT hI hO hN h hl next
      · subst hj
        refine lv_tableIn (off := 223) (tgt := 255) E.1 E.2.1 dL_law_32 (by decide +kernel) (by decide +kernel) (by decide +kernel) (by decide) ?_
        exact law_ways hL E hX hbl (by omega) hT hI hO hN h hl next
      · subst hj
        refine lv_tableIn (off := 236) (tgt := 268) E.1 E.2.1 dL_law_32 (by decide +kernel) (by decide +kernel) (by decide +kernel) (by decide) ?_
        exact law_resultLength hL E hX hbl (by omega) hT hI hO hN h hl next
      · subst hj
        refine lv_tableIn (off := 249) (tgt := 281) E.1 E.2.1 dL_law_32 (by decide +kernel) (by decide +kernel) (by decide +kernel) (by decide) ?_
        exact law_result hL E hX hbl (by omega) hT hI hO hN h hl next
      · subst hj
        refine lv_tableIn (off := 272) (tgt := 304) E.1 E.2.1 dL_law_32 (by decide +kernel) (by decide +kernel) (by decide +kernel) (by decide) ?_
        exact law_right hL E hX hbl (by omega) hT hI hO hN h hl next
      · subst hj
        refine lv_tableOut (tgt := 327) E.1 E.2.1 dL_law_32 (by decide +kernel) (by decide) ?_
        exact next T C O N H locs hT hI hO hN h
      · subst hj
        refine lv_tableOut (tgt := 327) E.1 E.2.1 dL_law_32 (by decide +kernel) (by decide) ?_
        exact next T C O N H locs hT hI hO hN h
      · subst hj
        refine lv_tableOut (tgt := 327) E.1 E.2.1 dL_law_32 (by decide +kernel) (by decide) ?_
        exact next T C O N H locs hT hI hO hN h
end
section
theorem z0_T : TOk ((0, (fun _ => 0), (fun _ => 0), (fun _ => 0), (fun _ => 0)) : TT) := ⟨by decide, fun _ => (show (0 : Int) ≤ 0 ∧ (0 : Int) ≤ 6 by omega), fun _ => (show (0 : Int) ≤ 0 ∧ (0 : Int) ≤ 6 by omega), fun _ => (show (0 : Int) ≤ 0 ∧ (0 : Int) ≤ 3 by omega), fun _ => (show (0 : Int) ≤ 0 ∧ (0 : Int) ≤ 3 by omega)⟩
theorem z0_C : CInv ((0, (fun _ => 0), (fun _ => 0), (fun _ => 0), (fun _ => 0)) : TT) (((fun _ => 0), 0, 0, (fun _ => 0), -1) : CC) := ⟨⟨fun _ => (show (-1 : Int) ≤ 0 ∧ (0 : Int) ≤ 6 by omega), Or.inl rfl, Or.inl rfl, fun _ => (show (0 : Int) ≤ 0 ∧ (0 : Int) ≤ 8000000 by omega), by decide⟩, fun (q : (0 : Int) = 1) => absurd q (by decide), fun (q : (0 : Int) = 1) => absurd q (by decide), fun (q : (-1 : Int) = 0) => absurd q (by decide), fun (q : (-1 : Int) = 2) => absurd q (by decide)⟩
theorem z0_O : OB ((0, (fun _ => 0), 0, (fun _ => 0)) : OO) := ⟨by decide, fun _ => (show (0 : Int) ≤ 0 ∧ (0 : Int) ≤ 199 by omega), by decide⟩
theorem z0_N : NB (((fun _ => 0), (fun _ => 0), 0, (fun _ => 0)) : NN) := ⟨fun _ => (show (0 : Int) ≤ 0 ∧ (0 : Int) ≤ 6 by omega), fun _ => (show (-1 : Int) ≤ 0 ∧ (0 : Int) ≤ 199 by omega), Or.inl rfl⟩
set_option maxHeartbeats 4000000 in
set_option maxRecDepth 100000 in
theorem whole_start {p : Program} {e : Env} {s : State} {m : MethodId} {below : List Frame} {meth : Method} {c : Code} (l : Launch) {b L : Nat} {xs : Nat → Int32} (hL : L ≤ 128) (C0 : lw_At p s m meth c b L xs) : W p l e room_1 s m #[Value.ref b] below meth c s.heap [] 0 0 (lw_Z below #[Value.ref b] s) (entryFrame m ([Value.ref b] : List Value).toArray 4) := by
  obtain ⟨hx, hb, hr, hml, hown, hts0, hX, hbl, hlocks, hgv⟩ := id C0
  have hts : ∀ w ∈ lw_all, w.before _ s = true := fun w h => hts0 w (lw_all_tbl h)
  have hA : ∀ q : Nat, s.heap.size ≤ q → (fun q : Nat => s.heap.size ≤ q) q := fun _ h => h
  obtain ⟨c0, iS0, hKn0⟩ := u_known (C := RX0) (T := TX0) (N := 14) (n := 14) hts in_X0 (hts _ q36)
  obtain ⟨c1, iS1, hKn1⟩ := u_known (C := RX1) (T := TX1) (N := 9) (n := 9) hts in_X1 (hts _ q223)
  obtain ⟨D, hKc⟩ : ∃ D : va_G, ∀ (k : Nat) (q : vw_C), vwCl[k]? = some q → u_Kn s q.1 q.2.1 q.2.2 (D.1 k) (D.2 k) := by
    refine ⟨(fun k => if k = 0 then c0 else c1, fun k => if k = 0 then iS0 else iS1), ?_⟩
    intro k q hq
    match k, hq with
    | 0, hq => cases hq; exact hKn0
    | 1, hq => cases hq; exact hKn1
    | k + 2, hq => simp [vwCl] at hq
  have hS : va_S (fun q : Nat => s.heap.size ≤ q) s.heap s.heap [] := va_S.rf
  have hK : va_K D vwCl [] s := ⟨hKc, fun k q h => by simp at h⟩
  have hP : va_P D vwCl [] s.heap := fun k q h => by simp at h
  have hD : va_D (fun q : Nat => s.heap.size ≤ q) [] := ⟨fun i j p q h => by simp at h, fun k q h => by simp at h⟩
  have E : Fx p s m #[Value.ref b] meth c D [] (fun q : Nat => s.heap.size ≤ q) code 4 ret R_law := ⟨hx, hb, hml, hr, hlocks, hown, hts, hA, hK⟩
  have hl := lv_entry ([.ref b]) (n := 4) (Nat.le_of_ble_eq_true rfl)
  rw [lg_entry_eq]
  generalize (lg_sl ([.ref b]) ++ List.replicate (4 - (lg_sl ([.ref b])).length) Slot.unset).toArray = ls at hl ⊢
  have hl : lv_has ls 4 [(0, .ref b)] := hl
  refine va_new (D := D) (ci := 0) (fs := [.int (zI 0), .null, .null, .null, .null, .null, .int (zI 0), .int (zI 0), .null, .int (zI 0), .int (zI 0), .null, .int (zI 0), .null]) (C := RX0) (T := TX0) (N := 14) hx hb hts in_X0 tyX0 tyX0_ok hown (hts _ q35) (hts _ q36) (hts _ q33) hK hP hD hS hA rfl (fun j hj => by
    rcases (show j = 0 ∨ j = 1 ∨ j = 2 ∨ j = 3 ∨ j = 4 ∨ j = 5 ∨ j = 6 ∨ j = 7 ∨ j = 8 ∨ j = 9 ∨ j = 10 ∨ j = 11 ∨ j = 12 ∨ j = 13 by omega) with hj | hj | hj | hj | hj | hj | hj | hj | hj | hj | hj | hj | hj | hj <;> subst hj <;> first | rfl | exact congrArg Value.int zI_0) (Nat.le_of_ble_eq_true rfl) (Nat.le_of_ble_eq_true rfl) dL_law_0 (fun qx H hP hD hS => ?_)
  have h : ZH D (fun q : Nat => s.heap.size ≤ q) s.heap ([(qx, .inr (0, [.int (zI 0), .null, .null, .null, .null, .null, .int (zI 0), .int (zI 0), .null, .int (zI 0), .int (zI 0), .null, .int (zI 0), .null]))] ++ []) H [] := ⟨hP, hD, hS⟩
  refine z_dup E dL_law_3 rfl ?_
  refine z_callI (n := 0) (As := []) (rest := [.ref qx]) E h hK (mX_init l D qx) q37 q38 q33 q39 rfl (by decide +kernel) ⟨Nat.le_of_ble_eq_true rfl, Nat.le_of_ble_eq_true rfl⟩ ⟨Nat.le_of_ble_eq_true rfl, Nat.le_of_ble_eq_true rfl⟩ rfl hl.1 (Nat.le_of_ble_eq_true rfl) rfl dL_law_4 (fun u1 H locs e1 hn1 hK1 => ?_)
  obtain ⟨adx, cI, cB⟩ := u1
  have e1 : adx 0 = qx := e1
  subst e1
  have h : ZH D (fun q : Nat => s.heap.size ≤ q) s.heap (wX adx cI cB ((0, (fun _ => 0), (fun _ => 0), (fun _ => 0), (fun _ => 0)) : TT) (((fun _ => 0), 0, 0, (fun _ => 0), -1) : CC) ((0, (fun _ => 0), 0, (fun _ => 0)) : OO)) H locs := ZH.nil.mp hn1
  refine lv_astore_n (lv' := [(1, .ref (adx 0)), (0, .ref b)]) hx hb dL_law_7 rfl hl (by decide) rfl (fun ls hl => ?_)
  refine va_new (D := D) (ci := 1) (fs := [.int (zI 0), .null, .null, .null, .null, .null, .null, .int (zI 0), .null]) (C := RX1) (T := TX1) (N := 9) hx hb hts in_X1 tyX1 tyX1_ok hown (hts _ q222) (hts _ q223) (hts _ q34) hK h.1 h.2.1 h.2.2 hA rfl (fun j hj => by
    rcases (show j = 0 ∨ j = 1 ∨ j = 2 ∨ j = 3 ∨ j = 4 ∨ j = 5 ∨ j = 6 ∨ j = 7 ∨ j = 8 by omega) with hj | hj | hj | hj | hj | hj | hj | hj | hj <;> subst hj <;> first | rfl | exact congrArg Value.int zI_0) (Nat.le_of_ble_eq_true rfl) (Nat.le_of_ble_eq_true rfl) dL_law_8 (fun qm H hP hD hS => ?_)
  have h : ZH D (fun q : Nat => s.heap.size ≤ q) s.heap ([(qm, .inr (1, [.int (zI 0), .null, .null, .null, .null, .null, .null, .int (zI 0), .null]))] ++ wX adx cI cB ((0, (fun _ => 0), (fun _ => 0), (fun _ => 0), (fun _ => 0)) : TT) (((fun _ => 0), 0, 0, (fun _ => 0), -1) : CC) ((0, (fun _ => 0), 0, (fun _ => 0)) : OO)) H locs := ZH.swap ⟨hP, hD, hS⟩
  refine z_dup E dL_law_11 rfl ?_
  refine z_callI (n := 0) (As := []) (rest := [.ref qm]) E h hK (mM_init l D qm) q224 q225 q34 q226 rfl (by decide +kernel) ⟨Nat.le_of_ble_eq_true rfl, Nat.le_of_ble_eq_true rfl⟩ ⟨Nat.le_of_ble_eq_true rfl, Nat.le_of_ble_eq_true rfl⟩ rfl hl.1 (Nat.le_of_ble_eq_true rfl) rfl dL_law_12 (fun u2 H locs e2 hn2 hK2 => ?_)
  obtain ⟨adm, cJ⟩ := u2
  have e2 : adm 0 = qm := e2
  subst e2
  have h : ZH D (fun q : Nat => s.heap.size ≤ q) s.heap (wX adx cI cB ((0, (fun _ => 0), (fun _ => 0), (fun _ => 0), (fun _ => 0)) : TT) (((fun _ => 0), 0, 0, (fun _ => 0), -1) : CC) ((0, (fun _ => 0), 0, (fun _ => 0)) : OO) ++ wM adm cJ ((0, (fun _ => 0), (fun _ => 0), (fun _ => 0), (fun _ => 0)) : TT) (((fun _ => 0), (fun _ => 0), 0, (fun _ => 0)) : NN)) H locs := hn2.swap
  refine lv_astore_n (lv' := [(2, .ref (adm 0)), (1, .ref (adx 0)), (0, .ref b)]) hx hb dL_law_15 rfl hl (by decide) rfl (fun ls hl => ?_)
  refine z_iconst E dL_law_16 ?_
  refine z_istore_n E [(0, .ref b), (1, .ref (adx 0)), (2, .ref (adm 0)), (3, .int (zI 0))] dL_law_17 hl (by decide) [3, 2, 1, 0] rfl (fun ls hl => ?_)
  have hK3 : va_K D vwCl [(cI, .int), (cB, .byte), (cJ, .int)] s := hK1.app hK2
  have E : Fx p s m #[Value.ref b] meth c D [(cI, .int), (cB, .byte), (cJ, .int)] (fun q : Nat => s.heap.size ≤ q) code 4 ret R_law := ⟨hx, hb, hml, hr, hlocks, hown, hts, hA, hK3⟩
  exact law_loop hL E hX hbl (L + 3) 0 _ _ _ _ H locs ls (by omega) (by omega) z0_T z0_C z0_O z0_N h hl
set_option maxHeartbeats 4000000 in
theorem lw_walk (l : Launch) (b : Addr) (xs : List Int32) : MetFree l x (headSpec (Jvm.Cond.code x code maxLocals ret :: tables_1) room_1) (lw_P b xs) (fun _ _ _ _ _ => True) lw_Q := by
  refine MetFree.of_bodyS (code := code) (maxLocals := maxLocals) (ret := ret) (by decide) ?_ ?_
  · intro args s m h hn
    obtain ⟨meth, c, h1, h2, h3, h4, h5, h6, -, -⟩ := Cond.code_spec hn (atoms_spec (ws := Jvm.Cond.code x code maxLocals ret :: tables_1) h _ List.mem_cons_self)
    exact ⟨meth, c, h1, h2, h3, h4, h5, h6⟩
  · intro p e s m args below meth c s₁ B hml0 hP _
    obtain ⟨rfl, hx, hbd, hgv⟩ := hP
    obtain ⟨scr, harrAt, hlist, hof, hsmall⟩ := hx
    obtain ⟨hcb, hkn, -, -⟩ := State.arrayAt?_spec harrAt
    have hown : s.vm.findClass R_law = some m.cls := findClass_of_methodNamed B.named
    have hts0 : ∀ c ∈ (Jvm.Cond.code x code maxLocals ret :: tables_1), c.before #[Value.ref b] s = true := atoms_spec (ws := Jvm.Cond.code x code maxLocals ret :: tables_1) B.pre
    have hts : ∀ w ∈ lw_tbl, w.before #[Value.ref b] s = true := k2_hts_sels lw_privs (fun w hw => hts0 w (List.mem_cons_of_mem _ hw)) lw_privs_ok
    have hml : c.maxLocals = 4 := B.maxLocals_eq (hts0 _ List.mem_cons_self)
    have X₀ : Stand p l e room_1 s m #[Value.ref b] below meth c s₁ [] 0 0 := Stand.of_body B
    have hh0 : s₁.heap = s.heap := by rw [B.state]; rfl
    have hsz : scr.slots.size = xs.length := by rw [← Array.length_toList, hlist, List.length_map]
    have hval : ∀ j : Nat, j < xs.length → scr.slots[j]? = some (.int (xs.getD j 0)) := fun j hj => by
      rw [← Array.getElem?_toList, hlist]
      simp [hj]
    have hbl : b < s.heap.size := (Array.getElem?_eq_some_iff.mp hcb).1
    have hX : va_X b xs.length (fun j => xs.getD j 0) s s.heap := ⟨scr, hcb, hof, hkn, hsz, hval⟩
    have K : W p l e room_1 s m #[Value.ref b] below meth c s₁.heap [] 0 0 (lw_Z below #[Value.ref b] s) (entryFrame m ([Value.ref b] : List Value).toArray 4) := by
      rw [hh0]
      exact whole_start l hbd ⟨B.exec, B.bytes, B.returns, hml, hown, hts, hX, hbl, B.notSynchronized, hgv⟩
    obtain ⟨t, a1, o, b1, b2, b3⟩ := K s₁ rfl X₀
    exact ⟨t, o, a1, b1, b2, b3⟩
theorem lw_pre_spec {args : Array Value} {s : State} (h : (Jvm.Cond.and given_1 narrow_1).before args s = true) (hr : rest_1_c.before args s = true) : ∃ (b : Addr) (xs : List Int32), lw_P b xs args s := by
  have hs := flat_of_before _ h
  have hq := flat_of_before _ hr
  have hc : (Cond.count 1).before args s = true := hs _ (by decide +kernel)
  have harr : (Cond.arrayOf (.arg 0) .int).before args s = true := hs _ (by decide +kernel)
  have hle : (Cond.le (.length (.arg 0)) (.int 128)).before args s = true := hs _ (by decide +kernel)
  have hlen : (Cond.isInt (.length (.arg 0))).before args s = true := hq _ (by decide +kernel)
  have hall : (Cond.all (.arg 0) (.isInt (.elem (.arg 0) (.index 0)))).before args s = true := hq _ (by decide +kernel)
  obtain ⟨b, xs, hb, hx⟩ := State.ints_of_pre rfl harr hlen hall
  have hsm : xs.length < 2 ^ 31 := hx.choose_spec.2.2.2
  have hev : (Term.length (.arg 0)).eval args s none [] s = some (.int xs.length.toInt32) := hx.length_eval hb
  have hv := Cond.le_ints hev (show (Term.int 128).eval args s none [] s = some (.int 128) from rfl)
  have hd : xs.length.toInt32 ≤ 128 := by
    simpa [Cond.before, Cond.holds, hv] using hle
  have hN : xs.length ≤ 128 := (Int32.ofNat_le_ofNat hsm (by decide)).mp (show Int32.ofNat xs.length ≤ Int32.ofNat 128 from hd)
  exact ⟨b, xs, Cond.one_arg hc (show args[0]? = some (.ref b) from hb), hx, hN, h⟩
theorem lw_comes (l : Launch) : Comes l x (Jvm.Cond.code x code maxLocals ret :: tables_1) room_1 (fun tb e args s => Calls_1 tb e args s ∧ rest_1 tb e args s ∧ Pre_1 tb e args s)
    (fun _ _ args s o t => lw_Q args s o t) := by
  intro p e ha hc hk s m args below hf hfit hheap happ hpre
  obtain ⟨b, xs, hP⟩ := lw_pre_spec hpre.2.2 hpre.2.1
  obtain ⟨k, o, h1, h2, h3, hQ⟩ := lw_walk l b xs p e ha hc hk s m args below hf ((Spec.applies_iff_loose hf).mp happ).1 hP trivial
  exact ⟨k, o, h1, h2, h3, hQ⟩
theorem lw_frame {s t : State} {o : Outcome} {args : Array Value} (h : Framed s o t [] 600000 7290000) :
    Framed s o t (fieldLocs frame_1_writes args s ++ arrayLocs frame_1_arrays args s ++ staticLocs frame_1_statics s) 600000 7290000 := h
theorem lw_limb (L : Cond) (hL : ∀ (args : Array Value) (s t : State), L.after args s (.returned (some (.int 1))) t = true) :
    ArmFor flags0 classFile x code maxLocals ret World_1 tables_1 room_1 Calls_1 rest_1 Pre_1
      (fun tb e a s o t => postC L tb e a s o t ∧ Framed s o t (fieldLocs frame_1_writes a s ++ arrayLocs frame_1_arrays a s ++ staticLocs frame_1_statics s) 600000 7290000) := by
  intro l _ _ _ p e ha hc hk s m args below hf hfit hheap happ hpre
  obtain ⟨k, o, h1, h2, h3, rfl, hF⟩ := lw_comes l p e ha hc hk s m args below hf hfit hheap happ hpre
  exact ⟨k, _, h1, h2, h3, hL args s _, lw_frame hF⟩
theorem i_vc : Claimed_1_1 ∧ Claimed_1_2 := ⟨lw_limb limb_1_1 (fun args s t => by simp [limb_1_1, Cond.after, Cond.holds, Cond.value]), lw_limb limb_1_2 (fun args s t => Cond.after_iff.mpr (by
  first | (rw [show limb_1_2 = Cond.eq .result (.int 1) from rfl, Cond.eq_ints (x := 1) (y := 1) rfl rfl]; simp; done) | (simp [limb_1_2, Cond.value, Term.eval]; done)))⟩
end
