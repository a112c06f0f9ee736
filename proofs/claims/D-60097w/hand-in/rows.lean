section
-- ===== PART A: goes FIRST, ahead of the names: the tables' words, and 'selects' of the private methods out of them =====
/-- a private method of a class that the tables say can be made, by its rows of tables_1 -/
def lw_okq (q : MethodName × Nat) : Prop := (q.1.cls ≠ "java/lang/invoke/MethodHandle" ∧ q.1.cls ≠ "java/lang/invoke/VarHandle") ∧ Cond.instantiable q.1.cls q.2 ∈ tables_1 ∧ Cond.privateMethod q.1 ∈ tables_1 ∧ Cond.instanceMethod q.1 ∈ tables_1
set_option maxRecDepth 100000
theorem lw_t1 {w : Cond} (h : w ∈ tables_1_1) : w ∈ tables_1 := List.mem_append_left _ h
theorem lw_t2 {w : Cond} (h : w ∈ tables_1_2) : w ∈ tables_1 := List.mem_append_right _ h
theorem lw_p0 : lw_okq (⟨"ImpreciseDesk", "has", "(I)Z"⟩, 19) := ⟨⟨by decide +kernel, by decide +kernel⟩, lw_t1 (List.mem_of_getElem? (i := 4) rfl), lw_t1 (List.mem_of_getElem? (i := 78) rfl), lw_t1 (List.mem_of_getElem? (i := 79) rfl)⟩
theorem lw_p1 : lw_okq (⟨"ImpreciseDesk", "unpack", "(II)V"⟩, 19) := ⟨⟨by decide +kernel, by decide +kernel⟩, lw_t1 (List.mem_of_getElem? (i := 4) rfl), lw_t1 (List.mem_of_getElem? (i := 82) rfl), lw_t1 (List.mem_of_getElem? (i := 83) rfl)⟩
theorem lw_p2 : lw_okq (⟨"ImpreciseDesk", "possible", "()Z"⟩, 19) := ⟨⟨by decide +kernel, by decide +kernel⟩, lw_t1 (List.mem_of_getElem? (i := 4) rfl), lw_t1 (List.mem_of_getElem? (i := 86) rfl), lw_t1 (List.mem_of_getElem? (i := 87) rfl)⟩
theorem lw_p3 : lw_okq (⟨"ImpreciseDesk", "begin", "(I)V"⟩, 19) := ⟨⟨by decide +kernel, by decide +kernel⟩, lw_t1 (List.mem_of_getElem? (i := 4) rfl), lw_t1 (List.mem_of_getElem? (i := 90) rfl), lw_t1 (List.mem_of_getElem? (i := 91) rfl)⟩
theorem lw_p4 : lw_okq (⟨"ImpreciseDesk", "giveMusts", "()Z"⟩, 19) := ⟨⟨by decide +kernel, by decide +kernel⟩, lw_t1 (List.mem_of_getElem? (i := 4) rfl), lw_t1 (List.mem_of_getElem? (i := 94) rfl), lw_t1 (List.mem_of_getElem? (i := 95) rfl)⟩
theorem lw_p5 : lw_okq (⟨"ImpreciseDesk", "giveMany", "(II)Z"⟩, 19) := ⟨⟨by decide +kernel, by decide +kernel⟩, lw_t1 (List.mem_of_getElem? (i := 4) rfl), lw_t1 (List.mem_of_getElem? (i := 98) rfl), lw_t1 (List.mem_of_getElem? (i := 99) rfl)⟩
theorem lw_p6 : lw_okq (⟨"ImpreciseDesk", "give", "(I)Z"⟩, 19) := ⟨⟨by decide +kernel, by decide +kernel⟩, lw_t1 (List.mem_of_getElem? (i := 4) rfl), lw_t1 (List.mem_of_getElem? (i := 102) rfl), lw_t1 (List.mem_of_getElem? (i := 103) rfl)⟩
theorem lw_p7 : lw_okq (⟨"ImpreciseDesk", "look", "(I)I"⟩, 19) := ⟨⟨by decide +kernel, by decide +kernel⟩, lw_t1 (List.mem_of_getElem? (i := 4) rfl), lw_t1 (List.mem_of_getElem? (i := 106) rfl), lw_t1 (List.mem_of_getElem? (i := 107) rfl)⟩
theorem lw_p8 : lw_okq (⟨"ImpreciseDesk", "inWindow", "(II)Z"⟩, 19) := ⟨⟨by decide +kernel, by decide +kernel⟩, lw_t1 (List.mem_of_getElem? (i := 4) rfl), lw_t1 (List.mem_of_getElem? (i := 110) rfl), lw_t1 (List.mem_of_getElem? (i := 111) rfl)⟩
theorem lw_p9 : lw_okq (⟨"ImpreciseDesk", "shift", "(II)V"⟩, 19) := ⟨⟨by decide +kernel, by decide +kernel⟩, lw_t1 (List.mem_of_getElem? (i := 4) rfl), lw_t1 (List.mem_of_getElem? (i := 114) rfl), lw_t1 (List.mem_of_getElem? (i := 115) rfl)⟩
theorem lw_p10 : lw_okq (⟨"ImpreciseDesk", "learn", "()V"⟩, 19) := ⟨⟨by decide +kernel, by decide +kernel⟩, lw_t1 (List.mem_of_getElem? (i := 4) rfl), lw_t1 (List.mem_of_getElem? (i := 142) rfl), lw_t1 (List.mem_of_getElem? (i := 143) rfl)⟩
theorem lw_p11 : lw_okq (⟨"ImpreciseDesk", "leastLossWith", "(I)I"⟩, 19) := ⟨⟨by decide +kernel, by decide +kernel⟩, lw_t1 (List.mem_of_getElem? (i := 4) rfl), lw_t1 (List.mem_of_getElem? (i := 146) rfl), lw_t1 (List.mem_of_getElem? (i := 147) rfl)⟩
theorem lw_p12 : lw_okq (⟨"ImpreciseDesk", "nextInOrder", "(I)I"⟩, 19) := ⟨⟨by decide +kernel, by decide +kernel⟩, lw_t1 (List.mem_of_getElem? (i := 4) rfl), lw_t1 (List.mem_of_getElem? (i := 150) rfl), lw_t1 (List.mem_of_getElem? (i := 151) rfl)⟩
theorem lw_p13 : lw_okq (⟨"ImpreciseDesk", "firstOwner", "(I)I"⟩, 19) := ⟨⟨by decide +kernel, by decide +kernel⟩, lw_t1 (List.mem_of_getElem? (i := 4) rfl), lw_t1 (List.mem_of_getElem? (i := 154) rfl), lw_t1 (List.mem_of_getElem? (i := 155) rfl)⟩
theorem lw_p14 : lw_okq (⟨"ImpreciseDesk", "restFits", "(I)Z"⟩, 19) := ⟨⟨by decide +kernel, by decide +kernel⟩, lw_t1 (List.mem_of_getElem? (i := 4) rfl), lw_t1 (List.mem_of_getElem? (i := 158) rfl), lw_t1 (List.mem_of_getElem? (i := 159) rfl)⟩
theorem lw_p15 : lw_okq (⟨"ImpreciseDeskModel", "form", "(I)Z"⟩, 13) := ⟨⟨by decide +kernel, by decide +kernel⟩, lw_t1 (List.mem_of_getElem? (i := 192) rfl), lw_t2 (List.mem_of_getElem? (i := 4) rfl), lw_t2 (List.mem_of_getElem? (i := 5) rfl)⟩
def lw_privs_1 : List (MethodName × Nat) := [(⟨"ImpreciseDesk", "has", "(I)Z"⟩, 19), (⟨"ImpreciseDesk", "unpack", "(II)V"⟩, 19), (⟨"ImpreciseDesk", "possible", "()Z"⟩, 19), (⟨"ImpreciseDesk", "begin", "(I)V"⟩, 19), (⟨"ImpreciseDesk", "giveMusts", "()Z"⟩, 19), (⟨"ImpreciseDesk", "giveMany", "(II)Z"⟩, 19), (⟨"ImpreciseDesk", "give", "(I)Z"⟩, 19), (⟨"ImpreciseDesk", "look", "(I)I"⟩, 19), (⟨"ImpreciseDesk", "inWindow", "(II)Z"⟩, 19), (⟨"ImpreciseDesk", "shift", "(II)V"⟩, 19), (⟨"ImpreciseDesk", "learn", "()V"⟩, 19), (⟨"ImpreciseDesk", "leastLossWith", "(I)I"⟩, 19), (⟨"ImpreciseDesk", "nextInOrder", "(I)I"⟩, 19), (⟨"ImpreciseDesk", "firstOwner", "(I)I"⟩, 19), (⟨"ImpreciseDesk", "restFits", "(I)Z"⟩, 19), (⟨"ImpreciseDeskModel", "form", "(I)Z"⟩, 13)]
theorem lw_r1 : ∀ q ∈ lw_privs_1, lw_okq q := List.forall_mem_cons.mpr ⟨lw_p0, List.forall_mem_cons.mpr ⟨lw_p1, List.forall_mem_cons.mpr ⟨lw_p2, List.forall_mem_cons.mpr ⟨lw_p3, List.forall_mem_cons.mpr ⟨lw_p4, List.forall_mem_cons.mpr ⟨lw_p5, List.forall_mem_cons.mpr ⟨lw_p6, List.forall_mem_cons.mpr ⟨lw_p7, List.forall_mem_cons.mpr ⟨lw_p8, List.forall_mem_cons.mpr ⟨lw_p9, List.forall_mem_cons.mpr ⟨lw_p10, List.forall_mem_cons.mpr ⟨lw_p11, List.forall_mem_cons.mpr ⟨lw_p12, List.forall_mem_cons.mpr ⟨lw_p13, List.forall_mem_cons.mpr ⟨lw_p14, List.forall_mem_cons.mpr ⟨lw_p15, fun _ h => absurd h List.not_mem_nil⟩⟩⟩⟩⟩⟩⟩⟩⟩⟩⟩⟩⟩⟩⟩⟩
theorem lw_p16 : lw_okq (⟨"ImpreciseDeskModel", "hold", "(II)V"⟩, 13) := ⟨⟨by decide +kernel, by decide +kernel⟩, lw_t1 (List.mem_of_getElem? (i := 192) rfl), lw_t2 (List.mem_of_getElem? (i := 8) rfl), lw_t2 (List.mem_of_getElem? (i := 9) rfl)⟩
theorem lw_p17 : lw_okq (⟨"ImpreciseDeskModel", "fits", "()Z"⟩, 13) := ⟨⟨by decide +kernel, by decide +kernel⟩, lw_t1 (List.mem_of_getElem? (i := 192) rfl), lw_t2 (List.mem_of_getElem? (i := 12) rfl), lw_t2 (List.mem_of_getElem? (i := 13) rfl)⟩
theorem lw_p18 : lw_okq (⟨"ImpreciseDeskModel", "measure", "(I)V"⟩, 13) := ⟨⟨by decide +kernel, by decide +kernel⟩, lw_t1 (List.mem_of_getElem? (i := 192) rfl), lw_t2 (List.mem_of_getElem? (i := 16) rfl), lw_t2 (List.mem_of_getElem? (i := 17) rfl)⟩
theorem lw_p19 : lw_okq (⟨"ImpreciseDeskModel", "covers", "(II)Z"⟩, 13) := ⟨⟨by decide +kernel, by decide +kernel⟩, lw_t1 (List.mem_of_getElem? (i := 192) rfl), lw_t2 (List.mem_of_getElem? (i := 20) rfl), lw_t2 (List.mem_of_getElem? (i := 21) rfl)⟩
theorem lw_p20 : lw_okq (⟨"ImpreciseDeskModel", "can", "()Z"⟩, 13) := ⟨⟨by decide +kernel, by decide +kernel⟩, lw_t1 (List.mem_of_getElem? (i := 192) rfl), lw_t2 (List.mem_of_getElem? (i := 24) rfl), lw_t2 (List.mem_of_getElem? (i := 25) rfl)⟩
theorem lw_p21 : lw_okq (⟨"ImpreciseDeskModel", "is", "(I)Z"⟩, 13) := ⟨⟨by decide +kernel, by decide +kernel⟩, lw_t1 (List.mem_of_getElem? (i := 192) rfl), lw_t2 (List.mem_of_getElem? (i := 32) rfl), lw_t2 (List.mem_of_getElem? (i := 33) rfl)⟩
theorem lw_p22 : lw_okq (⟨"ImpreciseDeskModel", "tryAll", "()I"⟩, 13) := ⟨⟨by decide +kernel, by decide +kernel⟩, lw_t1 (List.mem_of_getElem? (i := 192) rfl), lw_t2 (List.mem_of_getElem? (i := 56) rfl), lw_t2 (List.mem_of_getElem? (i := 57) rfl)⟩
theorem lw_p23 : lw_okq (⟨"ImpreciseDeskModel", "sort", "()V"⟩, 13) := ⟨⟨by decide +kernel, by decide +kernel⟩, lw_t1 (List.mem_of_getElem? (i := 192) rfl), lw_t2 (List.mem_of_getElem? (i := 60) rfl), lw_t2 (List.mem_of_getElem? (i := 61) rfl)⟩
theorem lw_p24 : lw_okq (⟨"ImpreciseDeskModel", "before", "(II)Z"⟩, 13) := ⟨⟨by decide +kernel, by decide +kernel⟩, lw_t1 (List.mem_of_getElem? (i := 192) rfl), lw_t2 (List.mem_of_getElem? (i := 64) rfl), lw_t2 (List.mem_of_getElem? (i := 65) rfl)⟩
theorem lw_p25 : lw_okq (⟨"ImpreciseDeskModel", "lost", "()I"⟩, 13) := ⟨⟨by decide +kernel, by decide +kernel⟩, lw_t1 (List.mem_of_getElem? (i := 192) rfl), lw_t2 (List.mem_of_getElem? (i := 70) rfl), lw_t2 (List.mem_of_getElem? (i := 71) rfl)⟩
theorem lw_p26 : lw_okq (⟨"ImpreciseDeskModel", "possible", "()Z"⟩, 13) := ⟨⟨by decide +kernel, by decide +kernel⟩, lw_t1 (List.mem_of_getElem? (i := 192) rfl), lw_t2 (List.mem_of_getElem? (i := 74) rfl), lw_t2 (List.mem_of_getElem? (i := 75) rfl)⟩
theorem lw_p27 : lw_okq (⟨"ImpreciseDeskModel", "keepBest", "()V"⟩, 13) := ⟨⟨by decide +kernel, by decide +kernel⟩, lw_t1 (List.mem_of_getElem? (i := 192) rfl), lw_t2 (List.mem_of_getElem? (i := 78) rfl), lw_t2 (List.mem_of_getElem? (i := 79) rfl)⟩
theorem lw_p28 : lw_okq (⟨"ImpreciseDeskModel", "next", "()Z"⟩, 13) := ⟨⟨by decide +kernel, by decide +kernel⟩, lw_t1 (List.mem_of_getElem? (i := 192) rfl), lw_t2 (List.mem_of_getElem? (i := 82) rfl), lw_t2 (List.mem_of_getElem? (i := 83) rfl)⟩
theorem lw_p29 : lw_okq (⟨"ImpreciseDeskModel", "give", "(I)I"⟩, 13) := ⟨⟨by decide +kernel, by decide +kernel⟩, lw_t1 (List.mem_of_getElem? (i := 192) rfl), lw_t2 (List.mem_of_getElem? (i := 94) rfl), lw_t2 (List.mem_of_getElem? (i := 95) rfl)⟩
def lw_privs_2 : List (MethodName × Nat) := [(⟨"ImpreciseDeskModel", "hold", "(II)V"⟩, 13), (⟨"ImpreciseDeskModel", "fits", "()Z"⟩, 13), (⟨"ImpreciseDeskModel", "measure", "(I)V"⟩, 13), (⟨"ImpreciseDeskModel", "covers", "(II)Z"⟩, 13), (⟨"ImpreciseDeskModel", "can", "()Z"⟩, 13), (⟨"ImpreciseDeskModel", "is", "(I)Z"⟩, 13), (⟨"ImpreciseDeskModel", "tryAll", "()I"⟩, 13), (⟨"ImpreciseDeskModel", "sort", "()V"⟩, 13), (⟨"ImpreciseDeskModel", "before", "(II)Z"⟩, 13), (⟨"ImpreciseDeskModel", "lost", "()I"⟩, 13), (⟨"ImpreciseDeskModel", "possible", "()Z"⟩, 13), (⟨"ImpreciseDeskModel", "keepBest", "()V"⟩, 13), (⟨"ImpreciseDeskModel", "next", "()Z"⟩, 13), (⟨"ImpreciseDeskModel", "give", "(I)I"⟩, 13)]
theorem lw_r2 : ∀ q ∈ lw_privs_2, lw_okq q := List.forall_mem_cons.mpr ⟨lw_p16, List.forall_mem_cons.mpr ⟨lw_p17, List.forall_mem_cons.mpr ⟨lw_p18, List.forall_mem_cons.mpr ⟨lw_p19, List.forall_mem_cons.mpr ⟨lw_p20, List.forall_mem_cons.mpr ⟨lw_p21, List.forall_mem_cons.mpr ⟨lw_p22, List.forall_mem_cons.mpr ⟨lw_p23, List.forall_mem_cons.mpr ⟨lw_p24, List.forall_mem_cons.mpr ⟨lw_p25, List.forall_mem_cons.mpr ⟨lw_p26, List.forall_mem_cons.mpr ⟨lw_p27, List.forall_mem_cons.mpr ⟨lw_p28, List.forall_mem_cons.mpr ⟨lw_p29, fun _ h => absurd h List.not_mem_nil⟩⟩⟩⟩⟩⟩⟩⟩⟩⟩⟩⟩⟩⟩
def lw_privs : List (MethodName × Nat) := lw_privs_1 ++ (lw_privs_2)
def lw_tbl : List Cond := k2_sels lw_privs ++ tables_1
theorem lw_privs_ok : ∀ q ∈ lw_privs, lw_okq q := by
  show ∀ q ∈ lw_privs_1 ++ (lw_privs_2), lw_okq q
  exact List.forall_mem_append.mpr ⟨lw_r1, lw_r2⟩
-- ===== ONE list of words for every method: the tables' words that hold all through a run =====
def lw_all : List Cond := lw_tbl.filter goodWord
/-- a word of the tables by its place: claim/WORDS.tsv -/
theorem lw_w {w : Cond} (i : Nat) (h : lw_tbl[i]? = some w) (g : goodWord w = true) : w ∈ lw_all := List.mem_filter.mpr ⟨List.mem_of_getElem? h, g⟩
theorem lw_all_tbl {w : Cond} (h : w ∈ lw_all) : w ∈ lw_tbl := (List.mem_filter.mp h).1
theorem lw_self : GoodIn lw_all lw_all := fun w h => ⟨h, good_of_word (List.mem_filter.mp h).2⟩
/-- a class's field words, by their places -/
theorem lw_in (ws : List Cond) (ps : List Nat) (hp : ws = ps.filterMap (fun i => lw_tbl[i]?)) (hg : ws.all goodWord = true) : ∀ w ∈ ws, w ∈ lw_all := by
  intro w h
  have h1 := List.all_eq_true.mp hg w h
  rw [hp] at h
  obtain ⟨i, -, hi⟩ := List.mem_filterMap.mp h
  exact lw_w i hi h1
/-- the words of a contract for the method y with code b, L locals, answer r -/
abbrev ws_ (y : MethodName) (b : ByteArray) (L : Nat) (r : Option FieldType) : List Cond := Cond.code y b L r :: lw_all
theorem lw_meth {y : MethodName} {b : ByteArray} {L : Nat} {r : Option FieldType} (h : Cond.code y b L r ∈ lw_all) : GoodIn lw_all (ws_ y b L r) := by
  intro w hw
  rcases List.mem_cons.mp hw with e | e
  · rw [e]
    exact lw_self _ h
  · exact lw_self _ e
theorem lw_app {a c : List Cond} (ha : ∀ w ∈ a, w ∈ lw_all) (hc : GoodIn lw_all c) : GoodIn lw_all (a ++ c) := by
  intro w hw
  rcases List.mem_append.mp hw with e | e
  · exact lw_self w (ha w e)
  · exact hc w e
/-- what a call through an object asks: cwV n hts (lw_V ..) -/
theorem lw_V {own : String} {idx : Nat} {C : String} {y : MethodName} {b : ByteArray} {L : Nat} {r : Option FieldType} (h1 : Cond.methodLink own idx y ∈ lw_all) (h2 : Cond.instanceMethod y ∈ lw_all) (h3 : Cond.selects C y y ∈ lw_all) (h4 : Cond.initialized C ∈ lw_all) (h5 : Cond.code y b L r ∈ lw_all) : GoodIn lw_all (wsV own idx C y (ws_ y b L r)) := by
  refine lw_app ?_ (lw_meth h5)
  intro w hw
  simp only [List.mem_cons, List.not_mem_nil, or_false] at hw
  rcases hw with e | e | e | e
  · rw [e]; exact h1
  · rw [e]; exact h2
  · rw [e]; exact h3
  · rw [e]; exact h4
/-- what a static call asks: va_cwS n hts (lw_S ..) -/
theorem lw_S {own : String} {idx : Nat} {y : MethodName} {b : ByteArray} {L : Nat} {r : Option FieldType} (h1 : Cond.methodLink own idx y ∈ lw_all) (h2 : Cond.static y ∈ lw_all) (h3 : Cond.initialized y.cls ∈ lw_all) (h4 : Cond.code y b L r ∈ lw_all) : GoodIn lw_all (va_wsS own idx y (ws_ y b L r)) := by
  refine lw_app ?_ (lw_meth h4)
  intro w hw
  simp only [List.mem_cons, List.not_mem_nil, or_false] at hw
  rcases hw with e | e | e
  · rw [e]; exact h1
  · rw [e]; exact h2
  · rw [e]; exact h3
/-- the words of a contract for a method WITH HANDLERS (hh: its table) -/
abbrev wsW_ (y : MethodName) (b : ByteArray) (L : Nat) (r : Option FieldType) (hh : List (Nat × Nat × Nat × Nat)) : List Cond := Cond.codeWith y b L r hh :: lw_all
theorem lw_methW {y : MethodName} {b : ByteArray} {L : Nat} {r : Option FieldType} {hh : List (Nat × Nat × Nat × Nat)} (h : Cond.codeWith y b L r hh ∈ lw_all) : GoodIn lw_all (wsW_ y b L r hh) := by
  intro w hw
  rcases List.mem_cons.mp hw with e | e
  · rw [e]
    exact lw_self _ h
  · exact lw_self _ e
/-- any list of words by their places (lw_in), good -/
theorem lw_good {ws : List Cond} (h : ∀ w ∈ ws, w ∈ lw_all) : GoodIn lw_all ws := fun w hw => lw_self w (h w hw)
/-- what a call of a method with handlers asks: vx_cwVW n hts (lw_VW ..), vx_cwSW n hts (lw_SW ..) -/
theorem lw_VW {own : String} {idx : Nat} {C : String} {y : MethodName} {b : ByteArray} {L : Nat} {r : Option FieldType} {hh : List (Nat × Nat × Nat × Nat)} (h1 : Cond.methodLink own idx y ∈ lw_all) (h2 : Cond.instanceMethod y ∈ lw_all) (h3 : Cond.selects C y y ∈ lw_all) (h4 : Cond.initialized C ∈ lw_all) (h5 : Cond.codeWith y b L r hh ∈ lw_all) : GoodIn lw_all (wsV own idx C y (wsW_ y b L r hh)) := by
  refine lw_app ?_ (lw_methW h5)
  intro w hw
  simp only [List.mem_cons, List.not_mem_nil, or_false] at hw
  rcases hw with e | e | e | e
  · rw [e]; exact h1
  · rw [e]; exact h2
  · rw [e]; exact h3
  · rw [e]; exact h4
theorem lw_SW {own : String} {idx : Nat} {y : MethodName} {b : ByteArray} {L : Nat} {r : Option FieldType} {hh : List (Nat × Nat × Nat × Nat)} (h1 : Cond.methodLink own idx y ∈ lw_all) (h2 : Cond.static y ∈ lw_all) (h3 : Cond.initialized y.cls ∈ lw_all) (h4 : Cond.codeWith y b L r hh ∈ lw_all) : GoodIn lw_all (va_wsS own idx y (wsW_ y b L r hh)) := by
  refine lw_app ?_ (lw_methW h4)
  intro w hw
  simp only [List.mem_cons, List.not_mem_nil, or_false] at hw
  rcases hw with e | e | e
  · rw [e]; exact h1
  · rw [e]; exact h2
  · rw [e]; exact h3
/-- a word by its place in its run of the tables -/
theorem lw_at {r : List Cond} (hr : ∀ w ∈ r, w ∈ lw_tbl) {w : Cond} (i : Nat) (h : r[i]? = some w) : w ∈ lw_tbl := hr w (List.mem_of_getElem? h)
theorem lw_g {w : Cond} (h : w ∈ lw_tbl) (g : goodWord w = true) : w ∈ lw_all := List.mem_filter.mpr ⟨h, g⟩
theorem lw_ms : ∀ w ∈ k2_sels lw_privs, w ∈ lw_tbl := fun w h => show w ∈ k2_sels lw_privs ++ tables_1 from List.mem_append_left _ h
theorem lw_m1 : ∀ w ∈ tables_1_1, w ∈ lw_tbl := fun w h => show w ∈ k2_sels lw_privs ++ tables_1 from List.mem_append_right (k2_sels lw_privs) (show w ∈ tables_1 from List.mem_append_left _ h)
theorem lw_m2 : ∀ w ∈ tables_1_2, w ∈ lw_tbl := fun w h => show w ∈ k2_sels lw_privs ++ tables_1 from List.mem_append_right (k2_sels lw_privs) (show w ∈ tables_1 from List.mem_append_right _ h)
theorem qs0 : (Cond.selects "ImpreciseDesk" ⟨"ImpreciseDesk", "has", "(I)Z"⟩ ⟨"ImpreciseDesk", "has", "(I)Z"⟩) ∈ lw_all := lw_g (lw_at lw_ms 0 rfl) rfl
theorem qs1 : (Cond.selects "ImpreciseDesk" ⟨"ImpreciseDesk", "unpack", "(II)V"⟩ ⟨"ImpreciseDesk", "unpack", "(II)V"⟩) ∈ lw_all := lw_g (lw_at lw_ms 1 rfl) rfl
theorem qs2 : (Cond.selects "ImpreciseDesk" ⟨"ImpreciseDesk", "possible", "()Z"⟩ ⟨"ImpreciseDesk", "possible", "()Z"⟩) ∈ lw_all := lw_g (lw_at lw_ms 2 rfl) rfl
theorem qs3 : (Cond.selects "ImpreciseDesk" ⟨"ImpreciseDesk", "begin", "(I)V"⟩ ⟨"ImpreciseDesk", "begin", "(I)V"⟩) ∈ lw_all := lw_g (lw_at lw_ms 3 rfl) rfl
theorem qs4 : (Cond.selects "ImpreciseDesk" ⟨"ImpreciseDesk", "giveMusts", "()Z"⟩ ⟨"ImpreciseDesk", "giveMusts", "()Z"⟩) ∈ lw_all := lw_g (lw_at lw_ms 4 rfl) rfl
theorem qs5 : (Cond.selects "ImpreciseDesk" ⟨"ImpreciseDesk", "giveMany", "(II)Z"⟩ ⟨"ImpreciseDesk", "giveMany", "(II)Z"⟩) ∈ lw_all := lw_g (lw_at lw_ms 5 rfl) rfl
theorem qs6 : (Cond.selects "ImpreciseDesk" ⟨"ImpreciseDesk", "give", "(I)Z"⟩ ⟨"ImpreciseDesk", "give", "(I)Z"⟩) ∈ lw_all := lw_g (lw_at lw_ms 6 rfl) rfl
theorem qs7 : (Cond.selects "ImpreciseDesk" ⟨"ImpreciseDesk", "look", "(I)I"⟩ ⟨"ImpreciseDesk", "look", "(I)I"⟩) ∈ lw_all := lw_g (lw_at lw_ms 7 rfl) rfl
theorem qs8 : (Cond.selects "ImpreciseDesk" ⟨"ImpreciseDesk", "inWindow", "(II)Z"⟩ ⟨"ImpreciseDesk", "inWindow", "(II)Z"⟩) ∈ lw_all := lw_g (lw_at lw_ms 8 rfl) rfl
theorem qs9 : (Cond.selects "ImpreciseDesk" ⟨"ImpreciseDesk", "shift", "(II)V"⟩ ⟨"ImpreciseDesk", "shift", "(II)V"⟩) ∈ lw_all := lw_g (lw_at lw_ms 9 rfl) rfl
theorem qs10 : (Cond.selects "ImpreciseDesk" ⟨"ImpreciseDesk", "learn", "()V"⟩ ⟨"ImpreciseDesk", "learn", "()V"⟩) ∈ lw_all := lw_g (lw_at lw_ms 10 rfl) rfl
theorem qs11 : (Cond.selects "ImpreciseDesk" ⟨"ImpreciseDesk", "leastLossWith", "(I)I"⟩ ⟨"ImpreciseDesk", "leastLossWith", "(I)I"⟩) ∈ lw_all := lw_g (lw_at lw_ms 11 rfl) rfl
theorem qs12 : (Cond.selects "ImpreciseDesk" ⟨"ImpreciseDesk", "nextInOrder", "(I)I"⟩ ⟨"ImpreciseDesk", "nextInOrder", "(I)I"⟩) ∈ lw_all := lw_g (lw_at lw_ms 12 rfl) rfl
theorem qs13 : (Cond.selects "ImpreciseDesk" ⟨"ImpreciseDesk", "firstOwner", "(I)I"⟩ ⟨"ImpreciseDesk", "firstOwner", "(I)I"⟩) ∈ lw_all := lw_g (lw_at lw_ms 13 rfl) rfl
theorem qs14 : (Cond.selects "ImpreciseDesk" ⟨"ImpreciseDesk", "restFits", "(I)Z"⟩ ⟨"ImpreciseDesk", "restFits", "(I)Z"⟩) ∈ lw_all := lw_g (lw_at lw_ms 14 rfl) rfl
theorem qs15 : (Cond.selects "ImpreciseDeskModel" ⟨"ImpreciseDeskModel", "form", "(I)Z"⟩ ⟨"ImpreciseDeskModel", "form", "(I)Z"⟩) ∈ lw_all := lw_g (lw_at lw_ms 15 rfl) rfl
theorem qs16 : (Cond.selects "ImpreciseDeskModel" ⟨"ImpreciseDeskModel", "hold", "(II)V"⟩ ⟨"ImpreciseDeskModel", "hold", "(II)V"⟩) ∈ lw_all := lw_g (lw_at lw_ms 16 rfl) rfl
theorem qs17 : (Cond.selects "ImpreciseDeskModel" ⟨"ImpreciseDeskModel", "fits", "()Z"⟩ ⟨"ImpreciseDeskModel", "fits", "()Z"⟩) ∈ lw_all := lw_g (lw_at lw_ms 17 rfl) rfl
theorem qs18 : (Cond.selects "ImpreciseDeskModel" ⟨"ImpreciseDeskModel", "measure", "(I)V"⟩ ⟨"ImpreciseDeskModel", "measure", "(I)V"⟩) ∈ lw_all := lw_g (lw_at lw_ms 18 rfl) rfl
theorem qs19 : (Cond.selects "ImpreciseDeskModel" ⟨"ImpreciseDeskModel", "covers", "(II)Z"⟩ ⟨"ImpreciseDeskModel", "covers", "(II)Z"⟩) ∈ lw_all := lw_g (lw_at lw_ms 19 rfl) rfl
theorem qs20 : (Cond.selects "ImpreciseDeskModel" ⟨"ImpreciseDeskModel", "can", "()Z"⟩ ⟨"ImpreciseDeskModel", "can", "()Z"⟩) ∈ lw_all := lw_g (lw_at lw_ms 20 rfl) rfl
theorem qs21 : (Cond.selects "ImpreciseDeskModel" ⟨"ImpreciseDeskModel", "is", "(I)Z"⟩ ⟨"ImpreciseDeskModel", "is", "(I)Z"⟩) ∈ lw_all := lw_g (lw_at lw_ms 21 rfl) rfl
theorem qs22 : (Cond.selects "ImpreciseDeskModel" ⟨"ImpreciseDeskModel", "tryAll", "()I"⟩ ⟨"ImpreciseDeskModel", "tryAll", "()I"⟩) ∈ lw_all := lw_g (lw_at lw_ms 22 rfl) rfl
theorem qs23 : (Cond.selects "ImpreciseDeskModel" ⟨"ImpreciseDeskModel", "sort", "()V"⟩ ⟨"ImpreciseDeskModel", "sort", "()V"⟩) ∈ lw_all := lw_g (lw_at lw_ms 23 rfl) rfl
theorem qs24 : (Cond.selects "ImpreciseDeskModel" ⟨"ImpreciseDeskModel", "before", "(II)Z"⟩ ⟨"ImpreciseDeskModel", "before", "(II)Z"⟩) ∈ lw_all := lw_g (lw_at lw_ms 24 rfl) rfl
theorem qs25 : (Cond.selects "ImpreciseDeskModel" ⟨"ImpreciseDeskModel", "lost", "()I"⟩ ⟨"ImpreciseDeskModel", "lost", "()I"⟩) ∈ lw_all := lw_g (lw_at lw_ms 25 rfl) rfl
theorem qs26 : (Cond.selects "ImpreciseDeskModel" ⟨"ImpreciseDeskModel", "possible", "()Z"⟩ ⟨"ImpreciseDeskModel", "possible", "()Z"⟩) ∈ lw_all := lw_g (lw_at lw_ms 26 rfl) rfl
theorem qs27 : (Cond.selects "ImpreciseDeskModel" ⟨"ImpreciseDeskModel", "keepBest", "()V"⟩ ⟨"ImpreciseDeskModel", "keepBest", "()V"⟩) ∈ lw_all := lw_g (lw_at lw_ms 27 rfl) rfl
theorem qs28 : (Cond.selects "ImpreciseDeskModel" ⟨"ImpreciseDeskModel", "next", "()Z"⟩ ⟨"ImpreciseDeskModel", "next", "()Z"⟩) ∈ lw_all := lw_g (lw_at lw_ms 28 rfl) rfl
theorem qs29 : (Cond.selects "ImpreciseDeskModel" ⟨"ImpreciseDeskModel", "give", "(I)I"⟩ ⟨"ImpreciseDeskModel", "give", "(I)I"⟩) ∈ lw_all := lw_g (lw_at lw_ms 29 rfl) rfl
end
section
set_option maxRecDepth 100000
/-! java/lang/Object -/
def RJ0 : String := "java/lang/Object"
abbrev cJ0_init : ByteArray := object_method_1_code
def yJ0_init : MethodName := ⟨RJ0, "<init>", "()V"⟩
theorem q39 : (Jvm.Cond.instanceMethod ({ cls := "java/lang/Object", name := "<init>", desc := "()V" } : Jvm.MethodName)) ∈ lw_all := lw_g (lw_at lw_m1 9 rfl) rfl
theorem q40 : (Jvm.Cond.code ({ cls := "java/lang/Object", name := "<init>", desc := "()V" } : Jvm.MethodName) object_method_1_code (1 : Nat) (Option.none : Option Jvm.ClassFile.FieldType)) ∈ lw_all := lw_g (lw_at lw_m1 10 rfl) rfl
theorem q99 : (Jvm.Cond.arrayClass Jvm.ClassFile.FieldType.byte) ∈ lw_all := lw_g (lw_at lw_m1 69 rfl) rfl
theorem q267 : (Jvm.Cond.arrayClass Jvm.ClassFile.FieldType.boolean) ∈ lw_all := lw_g (lw_at lw_m1 237 rfl) rfl
theorem q268 : (Jvm.Cond.arrayClass Jvm.ClassFile.FieldType.int) ∈ lw_all := lw_g (lw_at lw_m1 238 rfl) rfl
theorem q30 : (Jvm.Cond.initialized "ImpreciseDeskLaw") ∈ lw_all := lw_g (lw_at lw_m1 0 rfl) rfl
theorem q33 : (Jvm.Cond.classLink "ImpreciseDeskLaw" (7 : Nat) "ImpreciseDesk") ∈ lw_all := lw_g (lw_at lw_m1 3 rfl) rfl
theorem q35 : (Jvm.Cond.methodLink "ImpreciseDeskLaw" (9 : Nat) ({ cls := "ImpreciseDesk", name := "<init>", desc := "()V" } : Jvm.MethodName)) ∈ lw_all := lw_g (lw_at lw_m1 5 rfl) rfl
theorem q100 : (Jvm.Cond.methodLink "ImpreciseDeskLaw" (13 : Nat) ({ cls := "ImpreciseDesk", name := "bring", desc := "(III)I" } : Jvm.MethodName)) ∈ lw_all := lw_g (lw_at lw_m1 70 rfl) rfl
theorem q147 : (Jvm.Cond.methodLink "ImpreciseDeskLaw" (18 : Nat) ({ cls := "ImpreciseDesk", name := "take", desc := "(I)Z" } : Jvm.MethodName)) ∈ lw_all := lw_g (lw_at lw_m1 117 rfl) rfl
theorem q151 : (Jvm.Cond.methodLink "ImpreciseDeskLaw" (23 : Nat) ({ cls := "ImpreciseDesk", name := "block", desc := "(IZ)I" } : Jvm.MethodName)) ∈ lw_all := lw_g (lw_at lw_m1 121 rfl) rfl
theorem q155 : (Jvm.Cond.methodLink "ImpreciseDeskLaw" (28 : Nat) ({ cls := "ImpreciseDesk", name := "change", desc := "(II)I" } : Jvm.MethodName)) ∈ lw_all := lw_g (lw_at lw_m1 125 rfl) rfl
theorem q159 : (Jvm.Cond.methodLink "ImpreciseDeskLaw" (33 : Nat) ({ cls := "ImpreciseDesk", name := "tasks", desc := "()I" } : Jvm.MethodName)) ∈ lw_all := lw_g (lw_at lw_m1 129 rfl) rfl
theorem q163 : (Jvm.Cond.methodLink "ImpreciseDeskLaw" (38 : Nat) ({ cls := "ImpreciseDesk", name := "blocked", desc := "()I" } : Jvm.MethodName)) ∈ lw_all := lw_g (lw_at lw_m1 133 rfl) rfl
theorem q167 : (Jvm.Cond.methodLink "ImpreciseDeskLaw" (42 : Nat) ({ cls := "ImpreciseDesk", name := "loss", desc := "()I" } : Jvm.MethodName)) ∈ lw_all := lw_g (lw_at lw_m1 137 rfl) rfl
theorem q191 : (Jvm.Cond.methodLink "ImpreciseDeskLaw" (46 : Nat) ({ cls := "ImpreciseDesk", name := "kept", desc := "(I)I" } : Jvm.MethodName)) ∈ lw_all := lw_g (lw_at lw_m1 161 rfl) rfl
theorem q195 : (Jvm.Cond.methodLink "ImpreciseDeskLaw" (51 : Nat) ({ cls := "ImpreciseDesk", name := "at", desc := "(I)I" } : Jvm.MethodName)) ∈ lw_all := lw_g (lw_at lw_m1 165 rfl) rfl
theorem q199 : (Jvm.Cond.methodLink "ImpreciseDeskLaw" (55 : Nat) ({ cls := "ImpreciseDesk", name := "greatestMust", desc := "(I)I" } : Jvm.MethodName)) ∈ lw_all := lw_g (lw_at lw_m1 169 rfl) rfl
theorem q203 : (Jvm.Cond.methodLink "ImpreciseDeskLaw" (59 : Nat) ({ cls := "ImpreciseDesk", name := "lossWithout", desc := "(I)I" } : Jvm.MethodName)) ∈ lw_all := lw_g (lw_at lw_m1 173 rfl) rfl
theorem q207 : (Jvm.Cond.methodLink "ImpreciseDeskLaw" (63 : Nat) ({ cls := "ImpreciseDesk", name := "freeable", desc := "(II)I" } : Jvm.MethodName)) ∈ lw_all := lw_g (lw_at lw_m1 177 rfl) rfl
theorem q217 : (Jvm.Cond.methodLink "ImpreciseDeskLaw" (67 : Nat) ({ cls := "ImpreciseDesk", name := "idle", desc := "()I" } : Jvm.MethodName)) ∈ lw_all := lw_g (lw_at lw_m1 187 rfl) rfl
theorem q221 : (Jvm.Cond.classLink "ImpreciseDeskLaw" (10 : Nat) "ImpreciseDeskModel") ∈ lw_all := lw_g (lw_at lw_m1 191 rfl) rfl
theorem q223 : (Jvm.Cond.methodLink "ImpreciseDeskLaw" (12 : Nat) ({ cls := "ImpreciseDeskModel", name := "<init>", desc := "()V" } : Jvm.MethodName)) ∈ lw_all := lw_g (lw_at lw_m1 193 rfl) rfl
theorem q269 : (Jvm.Cond.methodLink "ImpreciseDeskLaw" (17 : Nat) ({ cls := "ImpreciseDeskModel", name := "bring", desc := "(III)I" } : Jvm.MethodName)) ∈ lw_all := lw_g (lw_at lw_m1 239 rfl) rfl
theorem q297 : (Jvm.Cond.methodLink "ImpreciseDeskLaw" (22 : Nat) ({ cls := "ImpreciseDeskModel", name := "take", desc := "(I)Z" } : Jvm.MethodName)) ∈ lw_all := lw_g (lw_at lw_m2 27 rfl) rfl
theorem q305 : (Jvm.Cond.methodLink "ImpreciseDeskLaw" (27 : Nat) ({ cls := "ImpreciseDeskModel", name := "block", desc := "(IZ)I" } : Jvm.MethodName)) ∈ lw_all := lw_g (lw_at lw_m2 35 rfl) rfl
theorem q309 : (Jvm.Cond.methodLink "ImpreciseDeskLaw" (32 : Nat) ({ cls := "ImpreciseDeskModel", name := "change", desc := "(II)I" } : Jvm.MethodName)) ∈ lw_all := lw_g (lw_at lw_m2 39 rfl) rfl
theorem q313 : (Jvm.Cond.methodLink "ImpreciseDeskLaw" (37 : Nat) ({ cls := "ImpreciseDeskModel", name := "tasks", desc := "()I" } : Jvm.MethodName)) ∈ lw_all := lw_g (lw_at lw_m2 43 rfl) rfl
theorem q317 : (Jvm.Cond.methodLink "ImpreciseDeskLaw" (41 : Nat) ({ cls := "ImpreciseDeskModel", name := "blocked", desc := "()I" } : Jvm.MethodName)) ∈ lw_all := lw_g (lw_at lw_m2 47 rfl) rfl
theorem q321 : (Jvm.Cond.methodLink "ImpreciseDeskLaw" (45 : Nat) ({ cls := "ImpreciseDeskModel", name := "loss", desc := "()I" } : Jvm.MethodName)) ∈ lw_all := lw_g (lw_at lw_m2 51 rfl) rfl
theorem q355 : (Jvm.Cond.methodLink "ImpreciseDeskLaw" (50 : Nat) ({ cls := "ImpreciseDeskModel", name := "kept", desc := "(I)I" } : Jvm.MethodName)) ∈ lw_all := lw_g (lw_at lw_m2 85 rfl) rfl
theorem q359 : (Jvm.Cond.methodLink "ImpreciseDeskLaw" (54 : Nat) ({ cls := "ImpreciseDeskModel", name := "at", desc := "(I)I" } : Jvm.MethodName)) ∈ lw_all := lw_g (lw_at lw_m2 89 rfl) rfl
theorem q367 : (Jvm.Cond.methodLink "ImpreciseDeskLaw" (58 : Nat) ({ cls := "ImpreciseDeskModel", name := "greatestMust", desc := "(I)I" } : Jvm.MethodName)) ∈ lw_all := lw_g (lw_at lw_m2 97 rfl) rfl
theorem q371 : (Jvm.Cond.methodLink "ImpreciseDeskLaw" (62 : Nat) ({ cls := "ImpreciseDeskModel", name := "lossWithout", desc := "(I)I" } : Jvm.MethodName)) ∈ lw_all := lw_g (lw_at lw_m2 101 rfl) rfl
theorem q375 : (Jvm.Cond.methodLink "ImpreciseDeskLaw" (66 : Nat) ({ cls := "ImpreciseDeskModel", name := "freeable", desc := "(II)I" } : Jvm.MethodName)) ∈ lw_all := lw_g (lw_at lw_m2 105 rfl) rfl
theorem q380 : (Jvm.Cond.methodLink "ImpreciseDeskLaw" (70 : Nat) ({ cls := "ImpreciseDeskModel", name := "idle", desc := "()I" } : Jvm.MethodName)) ∈ lw_all := lw_g (lw_at lw_m2 110 rfl) rfl
/-! ImpreciseDesk -/
def RX0 : String := "ImpreciseDesk"
def TX0 : u_T := fun k => match k with
  | 0 => ("ImpreciseDesk", "present", "I", false)
  | 1 => ("ImpreciseDesk", "from", "[B", true)
  | 2 => ("ImpreciseDesk", "until", "[B", true)
  | 3 => ("ImpreciseDesk", "must", "[B", true)
  | 4 => ("ImpreciseDesk", "may", "[B", true)
  | 5 => ("ImpreciseDesk", "worth", "[B", true)
  | 6 => ("ImpreciseDesk", "blockedSet", "I", false)
  | 7 => ("ImpreciseDesk", "shut", "I", false)
  | 8 => ("ImpreciseDesk", "owner", "[B", true)
  | 9 => ("ImpreciseDesk", "reached", "I", false)
  | 10 => ("ImpreciseDesk", "line", "[B", true)
  | 11 => ("ImpreciseDesk", "lineEnd", "I", false)
  | 12 => ("ImpreciseDesk", "givesUp", "[B", true)
  | 13 => ("ImpreciseDesk", "wantedBy", "[B", true)
  | 14 => ("ImpreciseDesk", "known", "Z", false)
  | 15 => ("ImpreciseDesk", "leastLoss", "I", false)
  | 16 => ("ImpreciseDesk", "keptUnits", "[B", true)
  | 17 => ("ImpreciseDesk", "firstPlan", "[B", true)
  | _ => ("ImpreciseDesk", "toGive", "[B", true)
def tyX0 : Nat → FieldType := fun k => match k with
  | 0 => .int
  | 1 => .array .byte
  | 2 => .array .byte
  | 3 => .array .byte
  | 4 => .array .byte
  | 5 => .array .byte
  | 6 => .int
  | 7 => .int
  | 8 => .array .byte
  | 9 => .int
  | 10 => .array .byte
  | 11 => .int
  | 12 => .array .byte
  | 13 => .array .byte
  | 14 => .boolean
  | 15 => .int
  | 16 => .array .byte
  | 17 => .array .byte
  | _ => .array .byte
abbrev wsX00 : List Cond := u_ws RX0 TX0 19
set_option maxRecDepth 100000 in
theorem nmX0 : ∀ a, a < 19 → ∀ b, b < 19 → a ≠ b → (TX0 a).2.1 ≠ (TX0 b).2.1 := by decide +kernel
set_option maxRecDepth 100000 in
theorem tyX0_ok : ∀ k, k < 19 → parseFieldDescriptor (TX0 k).2.2.1 = some (tyX0 k) := by decide +kernel
abbrev cX0_init : ByteArray := prog_1_method_1_code
def yX0_init : MethodName := ⟨RX0, "<init>", "()V"⟩
abbrev cX0_bring : ByteArray := prog_1_method_5_code
def yX0_bring : MethodName := ⟨RX0, "bring", "(III)I"⟩
abbrev cX0_packedOk : ByteArray := prog_1_method_3_code
def yX0_packedOk : MethodName := ⟨RX0, "packedOk", "(I)Z"⟩
abbrev cX0_has : ByteArray := prog_1_method_2_code
def yX0_has : MethodName := ⟨RX0, "has", "(I)Z"⟩
abbrev cX0_unpack : ByteArray := prog_1_method_4_code
def yX0_unpack : MethodName := ⟨RX0, "unpack", "(II)V"⟩
abbrev cX0_possible : ByteArray := prog_1_method_18_code
def yX0_possible : MethodName := ⟨RX0, "possible", "()Z"⟩
abbrev cX0_begin : ByteArray := prog_1_method_11_code
def yX0_begin : MethodName := ⟨RX0, "begin", "(I)V"⟩
abbrev cX0_giveMusts : ByteArray := prog_1_method_17_code
def yX0_giveMusts : MethodName := ⟨RX0, "giveMusts", "()Z"⟩
abbrev cX0_giveMany : ByteArray := prog_1_method_16_code
def yX0_giveMany : MethodName := ⟨RX0, "giveMany", "(II)Z"⟩
abbrev cX0_give : ByteArray := prog_1_method_13_code
def yX0_give : MethodName := ⟨RX0, "give", "(I)Z"⟩
abbrev cX0_look : ByteArray := prog_1_method_14_code
def yX0_look : MethodName := ⟨RX0, "look", "(I)I"⟩
abbrev cX0_inWindow : ByteArray := prog_1_method_12_code
def yX0_inWindow : MethodName := ⟨RX0, "inWindow", "(II)Z"⟩
abbrev cX0_shift : ByteArray := prog_1_method_15_code
def yX0_shift : MethodName := ⟨RX0, "shift", "(II)V"⟩
abbrev cX0_take : ByteArray := prog_1_method_6_code
def yX0_take : MethodName := ⟨RX0, "take", "(I)Z"⟩
abbrev cX0_block : ByteArray := prog_1_method_7_code
def yX0_block : MethodName := ⟨RX0, "block", "(IZ)I"⟩
abbrev cX0_change : ByteArray := prog_1_method_8_code
def yX0_change : MethodName := ⟨RX0, "change", "(II)I"⟩
abbrev cX0_tasks : ByteArray := prog_1_method_9_code
def yX0_tasks : MethodName := ⟨RX0, "tasks", "()I"⟩
abbrev cX0_blocked : ByteArray := prog_1_method_10_code
def yX0_blocked : MethodName := ⟨RX0, "blocked", "()I"⟩
abbrev cX0_loss : ByteArray := prog_1_method_24_code
def yX0_loss : MethodName := ⟨RX0, "loss", "()I"⟩
abbrev cX0_learn : ByteArray := prog_1_method_21_code
def yX0_learn : MethodName := ⟨RX0, "learn", "()V"⟩
abbrev cX0_leastLossWith : ByteArray := prog_1_method_20_code
def yX0_leastLossWith : MethodName := ⟨RX0, "leastLossWith", "(I)I"⟩
abbrev cX0_nextInOrder : ByteArray := prog_1_method_19_code
def yX0_nextInOrder : MethodName := ⟨RX0, "nextInOrder", "(I)I"⟩
abbrev cX0_firstOwner : ByteArray := prog_1_method_22_code
def yX0_firstOwner : MethodName := ⟨RX0, "firstOwner", "(I)I"⟩
abbrev cX0_restFits : ByteArray := prog_1_method_23_code
def yX0_restFits : MethodName := ⟨RX0, "restFits", "(I)Z"⟩
abbrev cX0_kept : ByteArray := prog_1_method_25_code
def yX0_kept : MethodName := ⟨RX0, "kept", "(I)I"⟩
abbrev cX0_at : ByteArray := prog_1_method_26_code
def yX0_at : MethodName := ⟨RX0, "at", "(I)I"⟩
abbrev cX0_greatestMust : ByteArray := prog_1_method_27_code
def yX0_greatestMust : MethodName := ⟨RX0, "greatestMust", "(I)I"⟩
abbrev cX0_lossWithout : ByteArray := prog_1_method_28_code
def yX0_lossWithout : MethodName := ⟨RX0, "lossWithout", "(I)I"⟩
abbrev cX0_freeable : ByteArray := prog_1_method_30_code
def yX0_freeable : MethodName := ⟨RX0, "freeable", "(II)I"⟩
abbrev cX0_span : ByteArray := prog_1_method_29_code
def yX0_span : MethodName := ⟨RX0, "span", "(II)I"⟩
abbrev cX0_count : ByteArray := prog_1_method_31_code
def yX0_count : MethodName := ⟨RX0, "count", "(I)I"⟩
abbrev cX0_idle : ByteArray := prog_1_method_32_code
def yX0_idle : MethodName := ⟨RX0, "idle", "()I"⟩
theorem q31 : (Jvm.Cond.initialized "ImpreciseDesk") ∈ lw_all := lw_g (lw_at lw_m1 1 rfl) rfl
theorem q34 : (Jvm.Cond.instantiable "ImpreciseDesk" (19 : Nat)) ∈ lw_all := lw_g (lw_at lw_m1 4 rfl) rfl
theorem q36 : (Jvm.Cond.instanceMethod ({ cls := "ImpreciseDesk", name := "<init>", desc := "()V" } : Jvm.MethodName)) ∈ lw_all := lw_g (lw_at lw_m1 6 rfl) rfl
theorem q37 : (Jvm.Cond.code ({ cls := "ImpreciseDesk", name := "<init>", desc := "()V" } : Jvm.MethodName) prog_1_method_1_code (1 : Nat) (Option.none : Option Jvm.ClassFile.FieldType)) ∈ lw_all := lw_g (lw_at lw_m1 7 rfl) rfl
theorem q38 : (Jvm.Cond.methodLink "ImpreciseDesk" (1 : Nat) ({ cls := "java/lang/Object", name := "<init>", desc := "()V" } : Jvm.MethodName)) ∈ lw_all := lw_g (lw_at lw_m1 8 rfl) rfl
theorem q41 : (Jvm.Cond.fieldLink "ImpreciseDesk" (46 : Nat) "ImpreciseDesk" "present" "I") ∈ lw_all := lw_g (lw_at lw_m1 11 rfl) rfl
theorem q42 : (Jvm.Cond.fieldLink "ImpreciseDesk" (7 : Nat) "ImpreciseDesk" "from" "[B") ∈ lw_all := lw_g (lw_at lw_m1 12 rfl) rfl
theorem q43 : (Jvm.Cond.fieldLink "ImpreciseDesk" (13 : Nat) "ImpreciseDesk" "until" "[B") ∈ lw_all := lw_g (lw_at lw_m1 13 rfl) rfl
theorem q44 : (Jvm.Cond.fieldLink "ImpreciseDesk" (16 : Nat) "ImpreciseDesk" "must" "[B") ∈ lw_all := lw_g (lw_at lw_m1 14 rfl) rfl
theorem q45 : (Jvm.Cond.fieldLink "ImpreciseDesk" (19 : Nat) "ImpreciseDesk" "may" "[B") ∈ lw_all := lw_g (lw_at lw_m1 15 rfl) rfl
theorem q46 : (Jvm.Cond.fieldLink "ImpreciseDesk" (22 : Nat) "ImpreciseDesk" "worth" "[B") ∈ lw_all := lw_g (lw_at lw_m1 16 rfl) rfl
theorem q47 : (Jvm.Cond.fieldLink "ImpreciseDesk" (69 : Nat) "ImpreciseDesk" "blockedSet" "I") ∈ lw_all := lw_g (lw_at lw_m1 17 rfl) rfl
theorem q48 : (Jvm.Cond.fieldLink "ImpreciseDesk" (72 : Nat) "ImpreciseDesk" "shut" "I") ∈ lw_all := lw_g (lw_at lw_m1 18 rfl) rfl
theorem q49 : (Jvm.Cond.fieldLink "ImpreciseDesk" (25 : Nat) "ImpreciseDesk" "owner" "[B") ∈ lw_all := lw_g (lw_at lw_m1 19 rfl) rfl
theorem q50 : (Jvm.Cond.fieldLink "ImpreciseDesk" (75 : Nat) "ImpreciseDesk" "reached" "I") ∈ lw_all := lw_g (lw_at lw_m1 20 rfl) rfl
theorem q51 : (Jvm.Cond.fieldLink "ImpreciseDesk" (28 : Nat) "ImpreciseDesk" "line" "[B") ∈ lw_all := lw_g (lw_at lw_m1 21 rfl) rfl
theorem q52 : (Jvm.Cond.fieldLink "ImpreciseDesk" (78 : Nat) "ImpreciseDesk" "lineEnd" "I") ∈ lw_all := lw_g (lw_at lw_m1 22 rfl) rfl
theorem q53 : (Jvm.Cond.fieldLink "ImpreciseDesk" (31 : Nat) "ImpreciseDesk" "givesUp" "[B") ∈ lw_all := lw_g (lw_at lw_m1 23 rfl) rfl
theorem q54 : (Jvm.Cond.fieldLink "ImpreciseDesk" (34 : Nat) "ImpreciseDesk" "wantedBy" "[B") ∈ lw_all := lw_g (lw_at lw_m1 24 rfl) rfl
theorem q55 : (Jvm.Cond.fieldLink "ImpreciseDesk" (50 : Nat) "ImpreciseDesk" "known" "Z") ∈ lw_all := lw_g (lw_at lw_m1 25 rfl) rfl
theorem q56 : (Jvm.Cond.fieldLink "ImpreciseDesk" (111 : Nat) "ImpreciseDesk" "leastLoss" "I") ∈ lw_all := lw_g (lw_at lw_m1 26 rfl) rfl
theorem q57 : (Jvm.Cond.fieldLink "ImpreciseDesk" (37 : Nat) "ImpreciseDesk" "keptUnits" "[B") ∈ lw_all := lw_g (lw_at lw_m1 27 rfl) rfl
theorem q58 : (Jvm.Cond.fieldLink "ImpreciseDesk" (40 : Nat) "ImpreciseDesk" "firstPlan" "[B") ∈ lw_all := lw_g (lw_at lw_m1 28 rfl) rfl
theorem q59 : (Jvm.Cond.fieldLink "ImpreciseDesk" (43 : Nat) "ImpreciseDesk" "toGive" "[B") ∈ lw_all := lw_g (lw_at lw_m1 29 rfl) rfl
theorem q60 : (Jvm.Cond.lays "ImpreciseDesk" "ImpreciseDesk" "present" "I") ∈ lw_all := lw_g (lw_at lw_m1 30 rfl) rfl
theorem q61 : (Jvm.Cond.soleField "ImpreciseDesk" "present") ∈ lw_all := lw_g (lw_at lw_m1 31 rfl) rfl
theorem q62 : (Jvm.Cond.laysFinal "ImpreciseDesk" "ImpreciseDesk" "from" "[B") ∈ lw_all := lw_g (lw_at lw_m1 32 rfl) rfl
theorem q63 : (Jvm.Cond.soleField "ImpreciseDesk" "from") ∈ lw_all := lw_g (lw_at lw_m1 33 rfl) rfl
theorem q64 : (Jvm.Cond.laysFinal "ImpreciseDesk" "ImpreciseDesk" "until" "[B") ∈ lw_all := lw_g (lw_at lw_m1 34 rfl) rfl
theorem q65 : (Jvm.Cond.soleField "ImpreciseDesk" "until") ∈ lw_all := lw_g (lw_at lw_m1 35 rfl) rfl
theorem q66 : (Jvm.Cond.laysFinal "ImpreciseDesk" "ImpreciseDesk" "must" "[B") ∈ lw_all := lw_g (lw_at lw_m1 36 rfl) rfl
theorem q67 : (Jvm.Cond.soleField "ImpreciseDesk" "must") ∈ lw_all := lw_g (lw_at lw_m1 37 rfl) rfl
theorem q68 : (Jvm.Cond.laysFinal "ImpreciseDesk" "ImpreciseDesk" "may" "[B") ∈ lw_all := lw_g (lw_at lw_m1 38 rfl) rfl
theorem q69 : (Jvm.Cond.soleField "ImpreciseDesk" "may") ∈ lw_all := lw_g (lw_at lw_m1 39 rfl) rfl
theorem q70 : (Jvm.Cond.laysFinal "ImpreciseDesk" "ImpreciseDesk" "worth" "[B") ∈ lw_all := lw_g (lw_at lw_m1 40 rfl) rfl
theorem q71 : (Jvm.Cond.soleField "ImpreciseDesk" "worth") ∈ lw_all := lw_g (lw_at lw_m1 41 rfl) rfl
theorem q72 : (Jvm.Cond.lays "ImpreciseDesk" "ImpreciseDesk" "blockedSet" "I") ∈ lw_all := lw_g (lw_at lw_m1 42 rfl) rfl
theorem q73 : (Jvm.Cond.soleField "ImpreciseDesk" "blockedSet") ∈ lw_all := lw_g (lw_at lw_m1 43 rfl) rfl
theorem q74 : (Jvm.Cond.lays "ImpreciseDesk" "ImpreciseDesk" "shut" "I") ∈ lw_all := lw_g (lw_at lw_m1 44 rfl) rfl
theorem q75 : (Jvm.Cond.soleField "ImpreciseDesk" "shut") ∈ lw_all := lw_g (lw_at lw_m1 45 rfl) rfl
theorem q76 : (Jvm.Cond.laysFinal "ImpreciseDesk" "ImpreciseDesk" "owner" "[B") ∈ lw_all := lw_g (lw_at lw_m1 46 rfl) rfl
theorem q77 : (Jvm.Cond.soleField "ImpreciseDesk" "owner") ∈ lw_all := lw_g (lw_at lw_m1 47 rfl) rfl
theorem q78 : (Jvm.Cond.lays "ImpreciseDesk" "ImpreciseDesk" "reached" "I") ∈ lw_all := lw_g (lw_at lw_m1 48 rfl) rfl
theorem q79 : (Jvm.Cond.soleField "ImpreciseDesk" "reached") ∈ lw_all := lw_g (lw_at lw_m1 49 rfl) rfl
theorem q80 : (Jvm.Cond.laysFinal "ImpreciseDesk" "ImpreciseDesk" "line" "[B") ∈ lw_all := lw_g (lw_at lw_m1 50 rfl) rfl
theorem q81 : (Jvm.Cond.soleField "ImpreciseDesk" "line") ∈ lw_all := lw_g (lw_at lw_m1 51 rfl) rfl
theorem q82 : (Jvm.Cond.lays "ImpreciseDesk" "ImpreciseDesk" "lineEnd" "I") ∈ lw_all := lw_g (lw_at lw_m1 52 rfl) rfl
theorem q83 : (Jvm.Cond.soleField "ImpreciseDesk" "lineEnd") ∈ lw_all := lw_g (lw_at lw_m1 53 rfl) rfl
theorem q84 : (Jvm.Cond.laysFinal "ImpreciseDesk" "ImpreciseDesk" "givesUp" "[B") ∈ lw_all := lw_g (lw_at lw_m1 54 rfl) rfl
theorem q85 : (Jvm.Cond.soleField "ImpreciseDesk" "givesUp") ∈ lw_all := lw_g (lw_at lw_m1 55 rfl) rfl
theorem q86 : (Jvm.Cond.laysFinal "ImpreciseDesk" "ImpreciseDesk" "wantedBy" "[B") ∈ lw_all := lw_g (lw_at lw_m1 56 rfl) rfl
theorem q87 : (Jvm.Cond.soleField "ImpreciseDesk" "wantedBy") ∈ lw_all := lw_g (lw_at lw_m1 57 rfl) rfl
theorem q88 : (Jvm.Cond.lays "ImpreciseDesk" "ImpreciseDesk" "known" "Z") ∈ lw_all := lw_g (lw_at lw_m1 58 rfl) rfl
theorem q89 : (Jvm.Cond.soleField "ImpreciseDesk" "known") ∈ lw_all := lw_g (lw_at lw_m1 59 rfl) rfl
theorem q90 : (Jvm.Cond.lays "ImpreciseDesk" "ImpreciseDesk" "leastLoss" "I") ∈ lw_all := lw_g (lw_at lw_m1 60 rfl) rfl
theorem q91 : (Jvm.Cond.soleField "ImpreciseDesk" "leastLoss") ∈ lw_all := lw_g (lw_at lw_m1 61 rfl) rfl
theorem q92 : (Jvm.Cond.laysFinal "ImpreciseDesk" "ImpreciseDesk" "keptUnits" "[B") ∈ lw_all := lw_g (lw_at lw_m1 62 rfl) rfl
theorem q93 : (Jvm.Cond.soleField "ImpreciseDesk" "keptUnits") ∈ lw_all := lw_g (lw_at lw_m1 63 rfl) rfl
theorem q94 : (Jvm.Cond.laysFinal "ImpreciseDesk" "ImpreciseDesk" "firstPlan" "[B") ∈ lw_all := lw_g (lw_at lw_m1 64 rfl) rfl
theorem q95 : (Jvm.Cond.soleField "ImpreciseDesk" "firstPlan") ∈ lw_all := lw_g (lw_at lw_m1 65 rfl) rfl
theorem q96 : (Jvm.Cond.laysFinal "ImpreciseDesk" "ImpreciseDesk" "toGive" "[B") ∈ lw_all := lw_g (lw_at lw_m1 66 rfl) rfl
theorem q97 : (Jvm.Cond.soleField "ImpreciseDesk" "toGive") ∈ lw_all := lw_g (lw_at lw_m1 67 rfl) rfl
theorem q98 : (Jvm.Cond.superclass "ImpreciseDesk" "java/lang/Object") ∈ lw_all := lw_g (lw_at lw_m1 68 rfl) rfl
theorem q101 : (Jvm.Cond.instanceMethod ({ cls := "ImpreciseDesk", name := "bring", desc := "(III)I" } : Jvm.MethodName)) ∈ lw_all := lw_g (lw_at lw_m1 71 rfl) rfl
theorem q102 : (Jvm.Cond.selects "ImpreciseDesk" ({ cls := "ImpreciseDesk", name := "bring", desc := "(III)I" } : Jvm.MethodName) ({ cls := "ImpreciseDesk", name := "bring", desc := "(III)I" } : Jvm.MethodName)) ∈ lw_all := lw_g (lw_at lw_m1 72 rfl) rfl
theorem q103 : (Jvm.Cond.code ({ cls := "ImpreciseDesk", name := "bring", desc := "(III)I" } : Jvm.MethodName) prog_1_method_5_code (5 : Nat) (Option.some Jvm.ClassFile.FieldType.int)) ∈ lw_all := lw_g (lw_at lw_m1 73 rfl) rfl
theorem q104 : (Jvm.Cond.methodLink "ImpreciseDesk" (54 : Nat) ({ cls := "ImpreciseDesk", name := "packedOk", desc := "(I)Z" } : Jvm.MethodName)) ∈ lw_all := lw_g (lw_at lw_m1 74 rfl) rfl
theorem q105 : (Jvm.Cond.static ({ cls := "ImpreciseDesk", name := "packedOk", desc := "(I)Z" } : Jvm.MethodName)) ∈ lw_all := lw_g (lw_at lw_m1 75 rfl) rfl
theorem q106 : (Jvm.Cond.code ({ cls := "ImpreciseDesk", name := "packedOk", desc := "(I)Z" } : Jvm.MethodName) prog_1_method_3_code (2 : Nat) (Option.some Jvm.ClassFile.FieldType.boolean)) ∈ lw_all := lw_g (lw_at lw_m1 76 rfl) rfl
theorem q107 : (Jvm.Cond.methodLink "ImpreciseDesk" (58 : Nat) ({ cls := "ImpreciseDesk", name := "has", desc := "(I)Z" } : Jvm.MethodName)) ∈ lw_all := lw_g (lw_at lw_m1 77 rfl) rfl
theorem q108 : (Jvm.Cond.privateMethod ({ cls := "ImpreciseDesk", name := "has", desc := "(I)Z" } : Jvm.MethodName)) ∈ lw_tbl := lw_at lw_m1 78 rfl
theorem q109 : (Jvm.Cond.instanceMethod ({ cls := "ImpreciseDesk", name := "has", desc := "(I)Z" } : Jvm.MethodName)) ∈ lw_all := lw_g (lw_at lw_m1 79 rfl) rfl
theorem q110 : (Jvm.Cond.code ({ cls := "ImpreciseDesk", name := "has", desc := "(I)Z" } : Jvm.MethodName) prog_1_method_2_code (2 : Nat) (Option.some Jvm.ClassFile.FieldType.boolean)) ∈ lw_all := lw_g (lw_at lw_m1 80 rfl) rfl
theorem q111 : (Jvm.Cond.methodLink "ImpreciseDesk" (61 : Nat) ({ cls := "ImpreciseDesk", name := "unpack", desc := "(II)V" } : Jvm.MethodName)) ∈ lw_all := lw_g (lw_at lw_m1 81 rfl) rfl
theorem q112 : (Jvm.Cond.privateMethod ({ cls := "ImpreciseDesk", name := "unpack", desc := "(II)V" } : Jvm.MethodName)) ∈ lw_tbl := lw_at lw_m1 82 rfl
theorem q113 : (Jvm.Cond.instanceMethod ({ cls := "ImpreciseDesk", name := "unpack", desc := "(II)V" } : Jvm.MethodName)) ∈ lw_all := lw_g (lw_at lw_m1 83 rfl) rfl
theorem q114 : (Jvm.Cond.code ({ cls := "ImpreciseDesk", name := "unpack", desc := "(II)V" } : Jvm.MethodName) prog_1_method_4_code (3 : Nat) (Option.none : Option Jvm.ClassFile.FieldType)) ∈ lw_all := lw_g (lw_at lw_m1 84 rfl) rfl
theorem q115 : (Jvm.Cond.methodLink "ImpreciseDesk" (65 : Nat) ({ cls := "ImpreciseDesk", name := "possible", desc := "()Z" } : Jvm.MethodName)) ∈ lw_all := lw_g (lw_at lw_m1 85 rfl) rfl
theorem q116 : (Jvm.Cond.privateMethod ({ cls := "ImpreciseDesk", name := "possible", desc := "()Z" } : Jvm.MethodName)) ∈ lw_tbl := lw_at lw_m1 86 rfl
theorem q117 : (Jvm.Cond.instanceMethod ({ cls := "ImpreciseDesk", name := "possible", desc := "()Z" } : Jvm.MethodName)) ∈ lw_all := lw_g (lw_at lw_m1 87 rfl) rfl
theorem q118 : (Jvm.Cond.code ({ cls := "ImpreciseDesk", name := "possible", desc := "()Z" } : Jvm.MethodName) prog_1_method_18_code (1 : Nat) (Option.some Jvm.ClassFile.FieldType.boolean)) ∈ lw_all := lw_g (lw_at lw_m1 88 rfl) rfl
theorem q119 : (Jvm.Cond.methodLink "ImpreciseDesk" (98 : Nat) ({ cls := "ImpreciseDesk", name := "begin", desc := "(I)V" } : Jvm.MethodName)) ∈ lw_all := lw_g (lw_at lw_m1 89 rfl) rfl
theorem q120 : (Jvm.Cond.privateMethod ({ cls := "ImpreciseDesk", name := "begin", desc := "(I)V" } : Jvm.MethodName)) ∈ lw_tbl := lw_at lw_m1 90 rfl
theorem q121 : (Jvm.Cond.instanceMethod ({ cls := "ImpreciseDesk", name := "begin", desc := "(I)V" } : Jvm.MethodName)) ∈ lw_all := lw_g (lw_at lw_m1 91 rfl) rfl
theorem q122 : (Jvm.Cond.code ({ cls := "ImpreciseDesk", name := "begin", desc := "(I)V" } : Jvm.MethodName) prog_1_method_11_code (3 : Nat) (Option.none : Option Jvm.ClassFile.FieldType)) ∈ lw_all := lw_g (lw_at lw_m1 92 rfl) rfl
theorem q123 : (Jvm.Cond.methodLink "ImpreciseDesk" (102 : Nat) ({ cls := "ImpreciseDesk", name := "giveMusts", desc := "()Z" } : Jvm.MethodName)) ∈ lw_all := lw_g (lw_at lw_m1 93 rfl) rfl
theorem q124 : (Jvm.Cond.privateMethod ({ cls := "ImpreciseDesk", name := "giveMusts", desc := "()Z" } : Jvm.MethodName)) ∈ lw_tbl := lw_at lw_m1 94 rfl
theorem q125 : (Jvm.Cond.instanceMethod ({ cls := "ImpreciseDesk", name := "giveMusts", desc := "()Z" } : Jvm.MethodName)) ∈ lw_all := lw_g (lw_at lw_m1 95 rfl) rfl
theorem q126 : (Jvm.Cond.code ({ cls := "ImpreciseDesk", name := "giveMusts", desc := "()Z" } : Jvm.MethodName) prog_1_method_17_code (2 : Nat) (Option.some Jvm.ClassFile.FieldType.boolean)) ∈ lw_all := lw_g (lw_at lw_m1 96 rfl) rfl
theorem q127 : (Jvm.Cond.methodLink "ImpreciseDesk" (95 : Nat) ({ cls := "ImpreciseDesk", name := "giveMany", desc := "(II)Z" } : Jvm.MethodName)) ∈ lw_all := lw_g (lw_at lw_m1 97 rfl) rfl
theorem q128 : (Jvm.Cond.privateMethod ({ cls := "ImpreciseDesk", name := "giveMany", desc := "(II)Z" } : Jvm.MethodName)) ∈ lw_tbl := lw_at lw_m1 98 rfl
theorem q129 : (Jvm.Cond.instanceMethod ({ cls := "ImpreciseDesk", name := "giveMany", desc := "(II)Z" } : Jvm.MethodName)) ∈ lw_all := lw_g (lw_at lw_m1 99 rfl) rfl
theorem q130 : (Jvm.Cond.code ({ cls := "ImpreciseDesk", name := "giveMany", desc := "(II)Z" } : Jvm.MethodName) prog_1_method_16_code (4 : Nat) (Option.some Jvm.ClassFile.FieldType.boolean)) ∈ lw_all := lw_g (lw_at lw_m1 100 rfl) rfl
theorem q131 : (Jvm.Cond.methodLink "ImpreciseDesk" (92 : Nat) ({ cls := "ImpreciseDesk", name := "give", desc := "(I)Z" } : Jvm.MethodName)) ∈ lw_all := lw_g (lw_at lw_m1 101 rfl) rfl
theorem q132 : (Jvm.Cond.privateMethod ({ cls := "ImpreciseDesk", name := "give", desc := "(I)Z" } : Jvm.MethodName)) ∈ lw_tbl := lw_at lw_m1 102 rfl
theorem q133 : (Jvm.Cond.instanceMethod ({ cls := "ImpreciseDesk", name := "give", desc := "(I)Z" } : Jvm.MethodName)) ∈ lw_all := lw_g (lw_at lw_m1 103 rfl) rfl
theorem q134 : (Jvm.Cond.code ({ cls := "ImpreciseDesk", name := "give", desc := "(I)Z" } : Jvm.MethodName) prog_1_method_13_code (4 : Nat) (Option.some Jvm.ClassFile.FieldType.boolean)) ∈ lw_all := lw_g (lw_at lw_m1 104 rfl) rfl
theorem q135 : (Jvm.Cond.methodLink "ImpreciseDesk" (81 : Nat) ({ cls := "ImpreciseDesk", name := "look", desc := "(I)I" } : Jvm.MethodName)) ∈ lw_all := lw_g (lw_at lw_m1 105 rfl) rfl
theorem q136 : (Jvm.Cond.privateMethod ({ cls := "ImpreciseDesk", name := "look", desc := "(I)I" } : Jvm.MethodName)) ∈ lw_tbl := lw_at lw_m1 106 rfl
theorem q137 : (Jvm.Cond.instanceMethod ({ cls := "ImpreciseDesk", name := "look", desc := "(I)I" } : Jvm.MethodName)) ∈ lw_all := lw_g (lw_at lw_m1 107 rfl) rfl
theorem q138 : (Jvm.Cond.code ({ cls := "ImpreciseDesk", name := "look", desc := "(I)I" } : Jvm.MethodName) prog_1_method_14_code (4 : Nat) (Option.some Jvm.ClassFile.FieldType.int)) ∈ lw_all := lw_g (lw_at lw_m1 108 rfl) rfl
theorem q139 : (Jvm.Cond.methodLink "ImpreciseDesk" (88 : Nat) ({ cls := "ImpreciseDesk", name := "inWindow", desc := "(II)Z" } : Jvm.MethodName)) ∈ lw_all := lw_g (lw_at lw_m1 109 rfl) rfl
theorem q140 : (Jvm.Cond.privateMethod ({ cls := "ImpreciseDesk", name := "inWindow", desc := "(II)Z" } : Jvm.MethodName)) ∈ lw_tbl := lw_at lw_m1 110 rfl
theorem q141 : (Jvm.Cond.instanceMethod ({ cls := "ImpreciseDesk", name := "inWindow", desc := "(II)Z" } : Jvm.MethodName)) ∈ lw_all := lw_g (lw_at lw_m1 111 rfl) rfl
theorem q142 : (Jvm.Cond.code ({ cls := "ImpreciseDesk", name := "inWindow", desc := "(II)Z" } : Jvm.MethodName) prog_1_method_12_code (3 : Nat) (Option.some Jvm.ClassFile.FieldType.boolean)) ∈ lw_all := lw_g (lw_at lw_m1 112 rfl) rfl
theorem q143 : (Jvm.Cond.methodLink "ImpreciseDesk" (85 : Nat) ({ cls := "ImpreciseDesk", name := "shift", desc := "(II)V" } : Jvm.MethodName)) ∈ lw_all := lw_g (lw_at lw_m1 113 rfl) rfl
theorem q144 : (Jvm.Cond.privateMethod ({ cls := "ImpreciseDesk", name := "shift", desc := "(II)V" } : Jvm.MethodName)) ∈ lw_tbl := lw_at lw_m1 114 rfl
theorem q145 : (Jvm.Cond.instanceMethod ({ cls := "ImpreciseDesk", name := "shift", desc := "(II)V" } : Jvm.MethodName)) ∈ lw_all := lw_g (lw_at lw_m1 115 rfl) rfl
theorem q146 : (Jvm.Cond.code ({ cls := "ImpreciseDesk", name := "shift", desc := "(II)V" } : Jvm.MethodName) prog_1_method_15_code (6 : Nat) (Option.none : Option Jvm.ClassFile.FieldType)) ∈ lw_all := lw_g (lw_at lw_m1 116 rfl) rfl
theorem q148 : (Jvm.Cond.instanceMethod ({ cls := "ImpreciseDesk", name := "take", desc := "(I)Z" } : Jvm.MethodName)) ∈ lw_all := lw_g (lw_at lw_m1 118 rfl) rfl
theorem q149 : (Jvm.Cond.selects "ImpreciseDesk" ({ cls := "ImpreciseDesk", name := "take", desc := "(I)Z" } : Jvm.MethodName) ({ cls := "ImpreciseDesk", name := "take", desc := "(I)Z" } : Jvm.MethodName)) ∈ lw_all := lw_g (lw_at lw_m1 119 rfl) rfl
theorem q150 : (Jvm.Cond.code ({ cls := "ImpreciseDesk", name := "take", desc := "(I)Z" } : Jvm.MethodName) prog_1_method_6_code (2 : Nat) (Option.some Jvm.ClassFile.FieldType.boolean)) ∈ lw_all := lw_g (lw_at lw_m1 120 rfl) rfl
theorem q152 : (Jvm.Cond.instanceMethod ({ cls := "ImpreciseDesk", name := "block", desc := "(IZ)I" } : Jvm.MethodName)) ∈ lw_all := lw_g (lw_at lw_m1 122 rfl) rfl
theorem q153 : (Jvm.Cond.selects "ImpreciseDesk" ({ cls := "ImpreciseDesk", name := "block", desc := "(IZ)I" } : Jvm.MethodName) ({ cls := "ImpreciseDesk", name := "block", desc := "(IZ)I" } : Jvm.MethodName)) ∈ lw_all := lw_g (lw_at lw_m1 123 rfl) rfl
theorem q154 : (Jvm.Cond.code ({ cls := "ImpreciseDesk", name := "block", desc := "(IZ)I" } : Jvm.MethodName) prog_1_method_7_code (4 : Nat) (Option.some Jvm.ClassFile.FieldType.int)) ∈ lw_all := lw_g (lw_at lw_m1 124 rfl) rfl
theorem q156 : (Jvm.Cond.instanceMethod ({ cls := "ImpreciseDesk", name := "change", desc := "(II)I" } : Jvm.MethodName)) ∈ lw_all := lw_g (lw_at lw_m1 126 rfl) rfl
theorem q157 : (Jvm.Cond.selects "ImpreciseDesk" ({ cls := "ImpreciseDesk", name := "change", desc := "(II)I" } : Jvm.MethodName) ({ cls := "ImpreciseDesk", name := "change", desc := "(II)I" } : Jvm.MethodName)) ∈ lw_all := lw_g (lw_at lw_m1 127 rfl) rfl
theorem q158 : (Jvm.Cond.code ({ cls := "ImpreciseDesk", name := "change", desc := "(II)I" } : Jvm.MethodName) prog_1_method_8_code (4 : Nat) (Option.some Jvm.ClassFile.FieldType.int)) ∈ lw_all := lw_g (lw_at lw_m1 128 rfl) rfl
theorem q160 : (Jvm.Cond.instanceMethod ({ cls := "ImpreciseDesk", name := "tasks", desc := "()I" } : Jvm.MethodName)) ∈ lw_all := lw_g (lw_at lw_m1 130 rfl) rfl
theorem q161 : (Jvm.Cond.selects "ImpreciseDesk" ({ cls := "ImpreciseDesk", name := "tasks", desc := "()I" } : Jvm.MethodName) ({ cls := "ImpreciseDesk", name := "tasks", desc := "()I" } : Jvm.MethodName)) ∈ lw_all := lw_g (lw_at lw_m1 131 rfl) rfl
theorem q162 : (Jvm.Cond.code ({ cls := "ImpreciseDesk", name := "tasks", desc := "()I" } : Jvm.MethodName) prog_1_method_9_code (1 : Nat) (Option.some Jvm.ClassFile.FieldType.int)) ∈ lw_all := lw_g (lw_at lw_m1 132 rfl) rfl
theorem q164 : (Jvm.Cond.instanceMethod ({ cls := "ImpreciseDesk", name := "blocked", desc := "()I" } : Jvm.MethodName)) ∈ lw_all := lw_g (lw_at lw_m1 134 rfl) rfl
theorem q165 : (Jvm.Cond.selects "ImpreciseDesk" ({ cls := "ImpreciseDesk", name := "blocked", desc := "()I" } : Jvm.MethodName) ({ cls := "ImpreciseDesk", name := "blocked", desc := "()I" } : Jvm.MethodName)) ∈ lw_all := lw_g (lw_at lw_m1 135 rfl) rfl
theorem q166 : (Jvm.Cond.code ({ cls := "ImpreciseDesk", name := "blocked", desc := "()I" } : Jvm.MethodName) prog_1_method_10_code (1 : Nat) (Option.some Jvm.ClassFile.FieldType.int)) ∈ lw_all := lw_g (lw_at lw_m1 136 rfl) rfl
theorem q168 : (Jvm.Cond.instanceMethod ({ cls := "ImpreciseDesk", name := "loss", desc := "()I" } : Jvm.MethodName)) ∈ lw_all := lw_g (lw_at lw_m1 138 rfl) rfl
theorem q169 : (Jvm.Cond.selects "ImpreciseDesk" ({ cls := "ImpreciseDesk", name := "loss", desc := "()I" } : Jvm.MethodName) ({ cls := "ImpreciseDesk", name := "loss", desc := "()I" } : Jvm.MethodName)) ∈ lw_all := lw_g (lw_at lw_m1 139 rfl) rfl
theorem q170 : (Jvm.Cond.code ({ cls := "ImpreciseDesk", name := "loss", desc := "()I" } : Jvm.MethodName) prog_1_method_24_code (1 : Nat) (Option.some Jvm.ClassFile.FieldType.int)) ∈ lw_all := lw_g (lw_at lw_m1 140 rfl) rfl
theorem q171 : (Jvm.Cond.methodLink "ImpreciseDesk" (120 : Nat) ({ cls := "ImpreciseDesk", name := "learn", desc := "()V" } : Jvm.MethodName)) ∈ lw_all := lw_g (lw_at lw_m1 141 rfl) rfl
theorem q172 : (Jvm.Cond.privateMethod ({ cls := "ImpreciseDesk", name := "learn", desc := "()V" } : Jvm.MethodName)) ∈ lw_tbl := lw_at lw_m1 142 rfl
theorem q173 : (Jvm.Cond.instanceMethod ({ cls := "ImpreciseDesk", name := "learn", desc := "()V" } : Jvm.MethodName)) ∈ lw_all := lw_g (lw_at lw_m1 143 rfl) rfl
theorem q174 : (Jvm.Cond.code ({ cls := "ImpreciseDesk", name := "learn", desc := "()V" } : Jvm.MethodName) prog_1_method_21_code (2 : Nat) (Option.none : Option Jvm.ClassFile.FieldType)) ∈ lw_all := lw_g (lw_at lw_m1 144 rfl) rfl
theorem q175 : (Jvm.Cond.methodLink "ImpreciseDesk" (108 : Nat) ({ cls := "ImpreciseDesk", name := "leastLossWith", desc := "(I)I" } : Jvm.MethodName)) ∈ lw_all := lw_g (lw_at lw_m1 145 rfl) rfl
theorem q176 : (Jvm.Cond.privateMethod ({ cls := "ImpreciseDesk", name := "leastLossWith", desc := "(I)I" } : Jvm.MethodName)) ∈ lw_tbl := lw_at lw_m1 146 rfl
theorem q177 : (Jvm.Cond.instanceMethod ({ cls := "ImpreciseDesk", name := "leastLossWith", desc := "(I)I" } : Jvm.MethodName)) ∈ lw_all := lw_g (lw_at lw_m1 147 rfl) rfl
theorem q178 : (Jvm.Cond.code ({ cls := "ImpreciseDesk", name := "leastLossWith", desc := "(I)I" } : Jvm.MethodName) prog_1_method_20_code (7 : Nat) (Option.some Jvm.ClassFile.FieldType.int)) ∈ lw_all := lw_g (lw_at lw_m1 148 rfl) rfl
theorem q179 : (Jvm.Cond.methodLink "ImpreciseDesk" (105 : Nat) ({ cls := "ImpreciseDesk", name := "nextInOrder", desc := "(I)I" } : Jvm.MethodName)) ∈ lw_all := lw_g (lw_at lw_m1 149 rfl) rfl
theorem q180 : (Jvm.Cond.privateMethod ({ cls := "ImpreciseDesk", name := "nextInOrder", desc := "(I)I" } : Jvm.MethodName)) ∈ lw_tbl := lw_at lw_m1 150 rfl
theorem q181 : (Jvm.Cond.instanceMethod ({ cls := "ImpreciseDesk", name := "nextInOrder", desc := "(I)I" } : Jvm.MethodName)) ∈ lw_all := lw_g (lw_at lw_m1 151 rfl) rfl
theorem q182 : (Jvm.Cond.code ({ cls := "ImpreciseDesk", name := "nextInOrder", desc := "(I)I" } : Jvm.MethodName) prog_1_method_19_code (4 : Nat) (Option.some Jvm.ClassFile.FieldType.int)) ∈ lw_all := lw_g (lw_at lw_m1 152 rfl) rfl
theorem q183 : (Jvm.Cond.methodLink "ImpreciseDesk" (114 : Nat) ({ cls := "ImpreciseDesk", name := "firstOwner", desc := "(I)I" } : Jvm.MethodName)) ∈ lw_all := lw_g (lw_at lw_m1 153 rfl) rfl
theorem q184 : (Jvm.Cond.privateMethod ({ cls := "ImpreciseDesk", name := "firstOwner", desc := "(I)I" } : Jvm.MethodName)) ∈ lw_tbl := lw_at lw_m1 154 rfl
theorem q185 : (Jvm.Cond.instanceMethod ({ cls := "ImpreciseDesk", name := "firstOwner", desc := "(I)I" } : Jvm.MethodName)) ∈ lw_all := lw_g (lw_at lw_m1 155 rfl) rfl
theorem q186 : (Jvm.Cond.code ({ cls := "ImpreciseDesk", name := "firstOwner", desc := "(I)I" } : Jvm.MethodName) prog_1_method_22_code (4 : Nat) (Option.some Jvm.ClassFile.FieldType.int)) ∈ lw_all := lw_g (lw_at lw_m1 156 rfl) rfl
theorem q187 : (Jvm.Cond.methodLink "ImpreciseDesk" (117 : Nat) ({ cls := "ImpreciseDesk", name := "restFits", desc := "(I)Z" } : Jvm.MethodName)) ∈ lw_all := lw_g (lw_at lw_m1 157 rfl) rfl
theorem q188 : (Jvm.Cond.privateMethod ({ cls := "ImpreciseDesk", name := "restFits", desc := "(I)Z" } : Jvm.MethodName)) ∈ lw_tbl := lw_at lw_m1 158 rfl
theorem q189 : (Jvm.Cond.instanceMethod ({ cls := "ImpreciseDesk", name := "restFits", desc := "(I)Z" } : Jvm.MethodName)) ∈ lw_all := lw_g (lw_at lw_m1 159 rfl) rfl
theorem q190 : (Jvm.Cond.code ({ cls := "ImpreciseDesk", name := "restFits", desc := "(I)Z" } : Jvm.MethodName) prog_1_method_23_code (3 : Nat) (Option.some Jvm.ClassFile.FieldType.boolean)) ∈ lw_all := lw_g (lw_at lw_m1 160 rfl) rfl
theorem q192 : (Jvm.Cond.instanceMethod ({ cls := "ImpreciseDesk", name := "kept", desc := "(I)I" } : Jvm.MethodName)) ∈ lw_all := lw_g (lw_at lw_m1 162 rfl) rfl
theorem q193 : (Jvm.Cond.selects "ImpreciseDesk" ({ cls := "ImpreciseDesk", name := "kept", desc := "(I)I" } : Jvm.MethodName) ({ cls := "ImpreciseDesk", name := "kept", desc := "(I)I" } : Jvm.MethodName)) ∈ lw_all := lw_g (lw_at lw_m1 163 rfl) rfl
theorem q194 : (Jvm.Cond.code ({ cls := "ImpreciseDesk", name := "kept", desc := "(I)I" } : Jvm.MethodName) prog_1_method_25_code (2 : Nat) (Option.some Jvm.ClassFile.FieldType.int)) ∈ lw_all := lw_g (lw_at lw_m1 164 rfl) rfl
theorem q196 : (Jvm.Cond.instanceMethod ({ cls := "ImpreciseDesk", name := "at", desc := "(I)I" } : Jvm.MethodName)) ∈ lw_all := lw_g (lw_at lw_m1 166 rfl) rfl
theorem q197 : (Jvm.Cond.selects "ImpreciseDesk" ({ cls := "ImpreciseDesk", name := "at", desc := "(I)I" } : Jvm.MethodName) ({ cls := "ImpreciseDesk", name := "at", desc := "(I)I" } : Jvm.MethodName)) ∈ lw_all := lw_g (lw_at lw_m1 167 rfl) rfl
theorem q198 : (Jvm.Cond.code ({ cls := "ImpreciseDesk", name := "at", desc := "(I)I" } : Jvm.MethodName) prog_1_method_26_code (2 : Nat) (Option.some Jvm.ClassFile.FieldType.int)) ∈ lw_all := lw_g (lw_at lw_m1 168 rfl) rfl
theorem q200 : (Jvm.Cond.instanceMethod ({ cls := "ImpreciseDesk", name := "greatestMust", desc := "(I)I" } : Jvm.MethodName)) ∈ lw_all := lw_g (lw_at lw_m1 170 rfl) rfl
theorem q201 : (Jvm.Cond.selects "ImpreciseDesk" ({ cls := "ImpreciseDesk", name := "greatestMust", desc := "(I)I" } : Jvm.MethodName) ({ cls := "ImpreciseDesk", name := "greatestMust", desc := "(I)I" } : Jvm.MethodName)) ∈ lw_all := lw_g (lw_at lw_m1 171 rfl) rfl
theorem q202 : (Jvm.Cond.code ({ cls := "ImpreciseDesk", name := "greatestMust", desc := "(I)I" } : Jvm.MethodName) prog_1_method_27_code (3 : Nat) (Option.some Jvm.ClassFile.FieldType.int)) ∈ lw_all := lw_g (lw_at lw_m1 172 rfl) rfl
theorem q204 : (Jvm.Cond.instanceMethod ({ cls := "ImpreciseDesk", name := "lossWithout", desc := "(I)I" } : Jvm.MethodName)) ∈ lw_all := lw_g (lw_at lw_m1 174 rfl) rfl
theorem q205 : (Jvm.Cond.selects "ImpreciseDesk" ({ cls := "ImpreciseDesk", name := "lossWithout", desc := "(I)I" } : Jvm.MethodName) ({ cls := "ImpreciseDesk", name := "lossWithout", desc := "(I)I" } : Jvm.MethodName)) ∈ lw_all := lw_g (lw_at lw_m1 175 rfl) rfl
theorem q206 : (Jvm.Cond.code ({ cls := "ImpreciseDesk", name := "lossWithout", desc := "(I)I" } : Jvm.MethodName) prog_1_method_28_code (3 : Nat) (Option.some Jvm.ClassFile.FieldType.int)) ∈ lw_all := lw_g (lw_at lw_m1 176 rfl) rfl
theorem q208 : (Jvm.Cond.instanceMethod ({ cls := "ImpreciseDesk", name := "freeable", desc := "(II)I" } : Jvm.MethodName)) ∈ lw_all := lw_g (lw_at lw_m1 178 rfl) rfl
theorem q209 : (Jvm.Cond.selects "ImpreciseDesk" ({ cls := "ImpreciseDesk", name := "freeable", desc := "(II)I" } : Jvm.MethodName) ({ cls := "ImpreciseDesk", name := "freeable", desc := "(II)I" } : Jvm.MethodName)) ∈ lw_all := lw_g (lw_at lw_m1 179 rfl) rfl
theorem q210 : (Jvm.Cond.code ({ cls := "ImpreciseDesk", name := "freeable", desc := "(II)I" } : Jvm.MethodName) prog_1_method_30_code (9 : Nat) (Option.some Jvm.ClassFile.FieldType.int)) ∈ lw_all := lw_g (lw_at lw_m1 180 rfl) rfl
theorem q211 : (Jvm.Cond.methodLink "ImpreciseDesk" (123 : Nat) ({ cls := "ImpreciseDesk", name := "span", desc := "(II)I" } : Jvm.MethodName)) ∈ lw_all := lw_g (lw_at lw_m1 181 rfl) rfl
theorem q212 : (Jvm.Cond.static ({ cls := "ImpreciseDesk", name := "span", desc := "(II)I" } : Jvm.MethodName)) ∈ lw_all := lw_g (lw_at lw_m1 182 rfl) rfl
theorem q213 : (Jvm.Cond.code ({ cls := "ImpreciseDesk", name := "span", desc := "(II)I" } : Jvm.MethodName) prog_1_method_29_code (2 : Nat) (Option.some Jvm.ClassFile.FieldType.int)) ∈ lw_all := lw_g (lw_at lw_m1 183 rfl) rfl
theorem q214 : (Jvm.Cond.methodLink "ImpreciseDesk" (127 : Nat) ({ cls := "ImpreciseDesk", name := "count", desc := "(I)I" } : Jvm.MethodName)) ∈ lw_all := lw_g (lw_at lw_m1 184 rfl) rfl
theorem q215 : (Jvm.Cond.static ({ cls := "ImpreciseDesk", name := "count", desc := "(I)I" } : Jvm.MethodName)) ∈ lw_all := lw_g (lw_at lw_m1 185 rfl) rfl
theorem q216 : (Jvm.Cond.code ({ cls := "ImpreciseDesk", name := "count", desc := "(I)I" } : Jvm.MethodName) prog_1_method_31_code (3 : Nat) (Option.some Jvm.ClassFile.FieldType.int)) ∈ lw_all := lw_g (lw_at lw_m1 186 rfl) rfl
theorem q218 : (Jvm.Cond.instanceMethod ({ cls := "ImpreciseDesk", name := "idle", desc := "()I" } : Jvm.MethodName)) ∈ lw_all := lw_g (lw_at lw_m1 188 rfl) rfl
theorem q219 : (Jvm.Cond.selects "ImpreciseDesk" ({ cls := "ImpreciseDesk", name := "idle", desc := "()I" } : Jvm.MethodName) ({ cls := "ImpreciseDesk", name := "idle", desc := "()I" } : Jvm.MethodName)) ∈ lw_all := lw_g (lw_at lw_m1 189 rfl) rfl
theorem q220 : (Jvm.Cond.code ({ cls := "ImpreciseDesk", name := "idle", desc := "()I" } : Jvm.MethodName) prog_1_method_32_code (3 : Nat) (Option.some Jvm.ClassFile.FieldType.int)) ∈ lw_all := lw_g (lw_at lw_m1 190 rfl) rfl
theorem in_X0 : ∀ w ∈ wsX00, w ∈ lw_all := lw_in wsX00 [60, 62, 64, 66, 68, 70, 72, 74, 76, 78, 80, 82, 84, 86, 88, 90, 92, 94, 96] (by decide +kernel) (by decide +kernel)
/-! ImpreciseDeskModel -/
def RX1 : String := "ImpreciseDeskModel"
def TX1 : u_T := fun k => match k with
  | 0 => ("ImpreciseDeskModel", "there", "[Z", false)
  | 1 => ("ImpreciseDeskModel", "from", "[I", false)
  | 2 => ("ImpreciseDeskModel", "to", "[I", false)
  | 3 => ("ImpreciseDeskModel", "must", "[I", false)
  | 4 => ("ImpreciseDeskModel", "may", "[I", false)
  | 5 => ("ImpreciseDeskModel", "worth", "[I", false)
  | 6 => ("ImpreciseDeskModel", "shut", "I", false)
  | 7 => ("ImpreciseDeskModel", "room", "[I", false)
  | 8 => ("ImpreciseDeskModel", "want", "[I", false)
  | 9 => ("ImpreciseDeskModel", "count", "I", false)
  | 10 => ("ImpreciseDeskModel", "order", "[I", false)
  | 11 => ("ImpreciseDeskModel", "kept", "[I", false)
  | _ => ("ImpreciseDeskModel", "best", "[I", false)
def tyX1 : Nat → FieldType := fun k => match k with
  | 0 => .array .boolean
  | 1 => .array .int
  | 2 => .array .int
  | 3 => .array .int
  | 4 => .array .int
  | 5 => .array .int
  | 6 => .int
  | 7 => .array .int
  | 8 => .array .int
  | 9 => .int
  | 10 => .array .int
  | 11 => .array .int
  | _ => .array .int
abbrev wsX10 : List Cond := u_ws RX1 TX1 13
set_option maxRecDepth 100000 in
theorem nmX1 : ∀ a, a < 13 → ∀ b, b < 13 → a ≠ b → (TX1 a).2.1 ≠ (TX1 b).2.1 := by decide +kernel
set_option maxRecDepth 100000 in
theorem tyX1_ok : ∀ k, k < 13 → parseFieldDescriptor (TX1 k).2.2.1 = some (tyX1 k) := by decide +kernel
abbrev cX1_init : ByteArray := prog_3_method_1_code
def yX1_init : MethodName := ⟨RX1, "<init>", "()V"⟩
abbrev cX1_bring : ByteArray := prog_3_method_9_code
def yX1_bring : MethodName := ⟨RX1, "bring", "(III)I"⟩
abbrev cX1_form : ByteArray := prog_3_method_3_code
def yX1_form : MethodName := ⟨RX1, "form", "(I)Z"⟩
abbrev cX1_hold : ByteArray := prog_3_method_4_code
def yX1_hold : MethodName := ⟨RX1, "hold", "(II)V"⟩
abbrev cX1_fits : ByteArray := prog_3_method_8_code
def yX1_fits : MethodName := ⟨RX1, "fits", "()Z"⟩
abbrev cX1_measure : ByteArray := prog_3_method_6_code
def yX1_measure : MethodName := ⟨RX1, "measure", "(I)V"⟩
abbrev cX1_covers : ByteArray := prog_3_method_5_code
def yX1_covers : MethodName := ⟨RX1, "covers", "(II)Z"⟩
abbrev cX1_can : ByteArray := prog_3_method_7_code
def yX1_can : MethodName := ⟨RX1, "can", "()Z"⟩
abbrev cX1_take : ByteArray := prog_3_method_10_code
def yX1_take : MethodName := ⟨RX1, "take", "(I)Z"⟩
abbrev cX1_is : ByteArray := prog_3_method_2_code
def yX1_is : MethodName := ⟨RX1, "is", "(I)Z"⟩
abbrev cX1_block : ByteArray := prog_3_method_11_code
def yX1_block : MethodName := ⟨RX1, "block", "(IZ)I"⟩
abbrev cX1_change : ByteArray := prog_3_method_12_code
def yX1_change : MethodName := ⟨RX1, "change", "(II)I"⟩
abbrev cX1_tasks : ByteArray := prog_3_method_13_code
def yX1_tasks : MethodName := ⟨RX1, "tasks", "()I"⟩
abbrev cX1_blocked : ByteArray := prog_3_method_14_code
def yX1_blocked : MethodName := ⟨RX1, "blocked", "()I"⟩
abbrev cX1_loss : ByteArray := prog_3_method_22_code
def yX1_loss : MethodName := ⟨RX1, "loss", "()I"⟩
abbrev cX1_tryAll : ByteArray := prog_3_method_19_code
def yX1_tryAll : MethodName := ⟨RX1, "tryAll", "()I"⟩
abbrev cX1_sort : ByteArray := prog_3_method_16_code
def yX1_sort : MethodName := ⟨RX1, "sort", "()V"⟩
abbrev cX1_before : ByteArray := prog_3_method_15_code
def yX1_before : MethodName := ⟨RX1, "before", "(II)Z"⟩
abbrev cX1_lost : ByteArray := prog_3_method_18_code
def yX1_lost : MethodName := ⟨RX1, "lost", "()I"⟩
abbrev cX1_possible : ByteArray := prog_3_method_20_code
def yX1_possible : MethodName := ⟨RX1, "possible", "()Z"⟩
abbrev cX1_keepBest : ByteArray := prog_3_method_21_code
def yX1_keepBest : MethodName := ⟨RX1, "keepBest", "()V"⟩
abbrev cX1_next : ByteArray := prog_3_method_17_code
def yX1_next : MethodName := ⟨RX1, "next", "()Z"⟩
abbrev cX1_kept : ByteArray := prog_3_method_23_code
def yX1_kept : MethodName := ⟨RX1, "kept", "(I)I"⟩
abbrev cX1_at : ByteArray := prog_3_method_25_code
def yX1_at : MethodName := ⟨RX1, "at", "(I)I"⟩
abbrev cX1_give : ByteArray := prog_3_method_24_code
def yX1_give : MethodName := ⟨RX1, "give", "(I)I"⟩
abbrev cX1_greatestMust : ByteArray := prog_3_method_26_code
def yX1_greatestMust : MethodName := ⟨RX1, "greatestMust", "(I)I"⟩
abbrev cX1_lossWithout : ByteArray := prog_3_method_27_code
def yX1_lossWithout : MethodName := ⟨RX1, "lossWithout", "(I)I"⟩
abbrev cX1_freeable : ByteArray := prog_3_method_28_code
def yX1_freeable : MethodName := ⟨RX1, "freeable", "(II)I"⟩
abbrev cX1_idle : ByteArray := prog_3_method_29_code
def yX1_idle : MethodName := ⟨RX1, "idle", "()I"⟩
theorem q32 : (Jvm.Cond.initialized "ImpreciseDeskModel") ∈ lw_all := lw_g (lw_at lw_m1 2 rfl) rfl
theorem q222 : (Jvm.Cond.instantiable "ImpreciseDeskModel" (13 : Nat)) ∈ lw_all := lw_g (lw_at lw_m1 192 rfl) rfl
theorem q224 : (Jvm.Cond.instanceMethod ({ cls := "ImpreciseDeskModel", name := "<init>", desc := "()V" } : Jvm.MethodName)) ∈ lw_all := lw_g (lw_at lw_m1 194 rfl) rfl
theorem q225 : (Jvm.Cond.code ({ cls := "ImpreciseDeskModel", name := "<init>", desc := "()V" } : Jvm.MethodName) prog_3_method_1_code (1 : Nat) (Option.none : Option Jvm.ClassFile.FieldType)) ∈ lw_all := lw_g (lw_at lw_m1 195 rfl) rfl
theorem q226 : (Jvm.Cond.methodLink "ImpreciseDeskModel" (1 : Nat) ({ cls := "java/lang/Object", name := "<init>", desc := "()V" } : Jvm.MethodName)) ∈ lw_all := lw_g (lw_at lw_m1 196 rfl) rfl
theorem q227 : (Jvm.Cond.fieldLink "ImpreciseDeskModel" (7 : Nat) "ImpreciseDeskModel" "there" "[Z") ∈ lw_all := lw_g (lw_at lw_m1 197 rfl) rfl
theorem q228 : (Jvm.Cond.fieldLink "ImpreciseDeskModel" (13 : Nat) "ImpreciseDeskModel" "from" "[I") ∈ lw_all := lw_g (lw_at lw_m1 198 rfl) rfl
theorem q229 : (Jvm.Cond.fieldLink "ImpreciseDeskModel" (17 : Nat) "ImpreciseDeskModel" "to" "[I") ∈ lw_all := lw_g (lw_at lw_m1 199 rfl) rfl
theorem q230 : (Jvm.Cond.fieldLink "ImpreciseDeskModel" (20 : Nat) "ImpreciseDeskModel" "must" "[I") ∈ lw_all := lw_g (lw_at lw_m1 200 rfl) rfl
theorem q231 : (Jvm.Cond.fieldLink "ImpreciseDeskModel" (23 : Nat) "ImpreciseDeskModel" "may" "[I") ∈ lw_all := lw_g (lw_at lw_m1 201 rfl) rfl
theorem q232 : (Jvm.Cond.fieldLink "ImpreciseDeskModel" (26 : Nat) "ImpreciseDeskModel" "worth" "[I") ∈ lw_all := lw_g (lw_at lw_m1 202 rfl) rfl
theorem q233 : (Jvm.Cond.fieldLink "ImpreciseDeskModel" (44 : Nat) "ImpreciseDeskModel" "shut" "I") ∈ lw_all := lw_g (lw_at lw_m1 203 rfl) rfl
theorem q234 : (Jvm.Cond.fieldLink "ImpreciseDeskModel" (29 : Nat) "ImpreciseDeskModel" "room" "[I") ∈ lw_all := lw_g (lw_at lw_m1 204 rfl) rfl
theorem q235 : (Jvm.Cond.fieldLink "ImpreciseDeskModel" (32 : Nat) "ImpreciseDeskModel" "want" "[I") ∈ lw_all := lw_g (lw_at lw_m1 205 rfl) rfl
theorem q236 : (Jvm.Cond.fieldLink "ImpreciseDeskModel" (74 : Nat) "ImpreciseDeskModel" "count" "I") ∈ lw_all := lw_g (lw_at lw_m1 206 rfl) rfl
theorem q237 : (Jvm.Cond.fieldLink "ImpreciseDeskModel" (35 : Nat) "ImpreciseDeskModel" "order" "[I") ∈ lw_all := lw_g (lw_at lw_m1 207 rfl) rfl
theorem q238 : (Jvm.Cond.fieldLink "ImpreciseDeskModel" (38 : Nat) "ImpreciseDeskModel" "kept" "[I") ∈ lw_all := lw_g (lw_at lw_m1 208 rfl) rfl
theorem q239 : (Jvm.Cond.fieldLink "ImpreciseDeskModel" (41 : Nat) "ImpreciseDeskModel" "best" "[I") ∈ lw_all := lw_g (lw_at lw_m1 209 rfl) rfl
theorem q240 : (Jvm.Cond.lays "ImpreciseDeskModel" "ImpreciseDeskModel" "there" "[Z") ∈ lw_all := lw_g (lw_at lw_m1 210 rfl) rfl
theorem q241 : (Jvm.Cond.soleField "ImpreciseDeskModel" "there") ∈ lw_all := lw_g (lw_at lw_m1 211 rfl) rfl
theorem q242 : (Jvm.Cond.lays "ImpreciseDeskModel" "ImpreciseDeskModel" "from" "[I") ∈ lw_all := lw_g (lw_at lw_m1 212 rfl) rfl
theorem q243 : (Jvm.Cond.soleField "ImpreciseDeskModel" "from") ∈ lw_all := lw_g (lw_at lw_m1 213 rfl) rfl
theorem q244 : (Jvm.Cond.lays "ImpreciseDeskModel" "ImpreciseDeskModel" "to" "[I") ∈ lw_all := lw_g (lw_at lw_m1 214 rfl) rfl
theorem q245 : (Jvm.Cond.soleField "ImpreciseDeskModel" "to") ∈ lw_all := lw_g (lw_at lw_m1 215 rfl) rfl
theorem q246 : (Jvm.Cond.lays "ImpreciseDeskModel" "ImpreciseDeskModel" "must" "[I") ∈ lw_all := lw_g (lw_at lw_m1 216 rfl) rfl
theorem q247 : (Jvm.Cond.soleField "ImpreciseDeskModel" "must") ∈ lw_all := lw_g (lw_at lw_m1 217 rfl) rfl
theorem q248 : (Jvm.Cond.lays "ImpreciseDeskModel" "ImpreciseDeskModel" "may" "[I") ∈ lw_all := lw_g (lw_at lw_m1 218 rfl) rfl
theorem q249 : (Jvm.Cond.soleField "ImpreciseDeskModel" "may") ∈ lw_all := lw_g (lw_at lw_m1 219 rfl) rfl
theorem q250 : (Jvm.Cond.lays "ImpreciseDeskModel" "ImpreciseDeskModel" "worth" "[I") ∈ lw_all := lw_g (lw_at lw_m1 220 rfl) rfl
theorem q251 : (Jvm.Cond.soleField "ImpreciseDeskModel" "worth") ∈ lw_all := lw_g (lw_at lw_m1 221 rfl) rfl
theorem q252 : (Jvm.Cond.lays "ImpreciseDeskModel" "ImpreciseDeskModel" "shut" "I") ∈ lw_all := lw_g (lw_at lw_m1 222 rfl) rfl
theorem q253 : (Jvm.Cond.soleField "ImpreciseDeskModel" "shut") ∈ lw_all := lw_g (lw_at lw_m1 223 rfl) rfl
theorem q254 : (Jvm.Cond.lays "ImpreciseDeskModel" "ImpreciseDeskModel" "room" "[I") ∈ lw_all := lw_g (lw_at lw_m1 224 rfl) rfl
theorem q255 : (Jvm.Cond.soleField "ImpreciseDeskModel" "room") ∈ lw_all := lw_g (lw_at lw_m1 225 rfl) rfl
theorem q256 : (Jvm.Cond.lays "ImpreciseDeskModel" "ImpreciseDeskModel" "want" "[I") ∈ lw_all := lw_g (lw_at lw_m1 226 rfl) rfl
theorem q257 : (Jvm.Cond.soleField "ImpreciseDeskModel" "want") ∈ lw_all := lw_g (lw_at lw_m1 227 rfl) rfl
theorem q258 : (Jvm.Cond.lays "ImpreciseDeskModel" "ImpreciseDeskModel" "count" "I") ∈ lw_all := lw_g (lw_at lw_m1 228 rfl) rfl
theorem q259 : (Jvm.Cond.soleField "ImpreciseDeskModel" "count") ∈ lw_all := lw_g (lw_at lw_m1 229 rfl) rfl
theorem q260 : (Jvm.Cond.lays "ImpreciseDeskModel" "ImpreciseDeskModel" "order" "[I") ∈ lw_all := lw_g (lw_at lw_m1 230 rfl) rfl
theorem q261 : (Jvm.Cond.soleField "ImpreciseDeskModel" "order") ∈ lw_all := lw_g (lw_at lw_m1 231 rfl) rfl
theorem q262 : (Jvm.Cond.lays "ImpreciseDeskModel" "ImpreciseDeskModel" "kept" "[I") ∈ lw_all := lw_g (lw_at lw_m1 232 rfl) rfl
theorem q263 : (Jvm.Cond.soleField "ImpreciseDeskModel" "kept") ∈ lw_all := lw_g (lw_at lw_m1 233 rfl) rfl
theorem q264 : (Jvm.Cond.lays "ImpreciseDeskModel" "ImpreciseDeskModel" "best" "[I") ∈ lw_all := lw_g (lw_at lw_m1 234 rfl) rfl
theorem q265 : (Jvm.Cond.soleField "ImpreciseDeskModel" "best") ∈ lw_all := lw_g (lw_at lw_m1 235 rfl) rfl
theorem q266 : (Jvm.Cond.superclass "ImpreciseDeskModel" "java/lang/Object") ∈ lw_all := lw_g (lw_at lw_m1 236 rfl) rfl
theorem q270 : (Jvm.Cond.instanceMethod ({ cls := "ImpreciseDeskModel", name := "bring", desc := "(III)I" } : Jvm.MethodName)) ∈ lw_all := lw_g (lw_at lw_m2 0 rfl) rfl
theorem q271 : (Jvm.Cond.selects "ImpreciseDeskModel" ({ cls := "ImpreciseDeskModel", name := "bring", desc := "(III)I" } : Jvm.MethodName) ({ cls := "ImpreciseDeskModel", name := "bring", desc := "(III)I" } : Jvm.MethodName)) ∈ lw_all := lw_g (lw_at lw_m2 1 rfl) rfl
theorem q272 : (Jvm.Cond.code ({ cls := "ImpreciseDeskModel", name := "bring", desc := "(III)I" } : Jvm.MethodName) prog_3_method_9_code (5 : Nat) (Option.some Jvm.ClassFile.FieldType.int)) ∈ lw_all := lw_g (lw_at lw_m2 2 rfl) rfl
theorem q273 : (Jvm.Cond.methodLink "ImpreciseDeskModel" (60 : Nat) ({ cls := "ImpreciseDeskModel", name := "form", desc := "(I)Z" } : Jvm.MethodName)) ∈ lw_all := lw_g (lw_at lw_m2 3 rfl) rfl
theorem q274 : (Jvm.Cond.privateMethod ({ cls := "ImpreciseDeskModel", name := "form", desc := "(I)Z" } : Jvm.MethodName)) ∈ lw_tbl := lw_at lw_m2 4 rfl
theorem q275 : (Jvm.Cond.instanceMethod ({ cls := "ImpreciseDeskModel", name := "form", desc := "(I)Z" } : Jvm.MethodName)) ∈ lw_all := lw_g (lw_at lw_m2 5 rfl) rfl
theorem q276 : (Jvm.Cond.code ({ cls := "ImpreciseDeskModel", name := "form", desc := "(I)Z" } : Jvm.MethodName) prog_3_method_3_code (3 : Nat) (Option.some Jvm.ClassFile.FieldType.boolean)) ∈ lw_all := lw_g (lw_at lw_m2 6 rfl) rfl
theorem q277 : (Jvm.Cond.methodLink "ImpreciseDeskModel" (64 : Nat) ({ cls := "ImpreciseDeskModel", name := "hold", desc := "(II)V" } : Jvm.MethodName)) ∈ lw_all := lw_g (lw_at lw_m2 7 rfl) rfl
theorem q278 : (Jvm.Cond.privateMethod ({ cls := "ImpreciseDeskModel", name := "hold", desc := "(II)V" } : Jvm.MethodName)) ∈ lw_tbl := lw_at lw_m2 8 rfl
theorem q279 : (Jvm.Cond.instanceMethod ({ cls := "ImpreciseDeskModel", name := "hold", desc := "(II)V" } : Jvm.MethodName)) ∈ lw_all := lw_g (lw_at lw_m2 9 rfl) rfl
theorem q280 : (Jvm.Cond.code ({ cls := "ImpreciseDeskModel", name := "hold", desc := "(II)V" } : Jvm.MethodName) prog_3_method_4_code (3 : Nat) (Option.none : Option Jvm.ClassFile.FieldType)) ∈ lw_all := lw_g (lw_at lw_m2 10 rfl) rfl
theorem q281 : (Jvm.Cond.methodLink "ImpreciseDeskModel" (68 : Nat) ({ cls := "ImpreciseDeskModel", name := "fits", desc := "()Z" } : Jvm.MethodName)) ∈ lw_all := lw_g (lw_at lw_m2 11 rfl) rfl
theorem q282 : (Jvm.Cond.privateMethod ({ cls := "ImpreciseDeskModel", name := "fits", desc := "()Z" } : Jvm.MethodName)) ∈ lw_tbl := lw_at lw_m2 12 rfl
theorem q283 : (Jvm.Cond.instanceMethod ({ cls := "ImpreciseDeskModel", name := "fits", desc := "()Z" } : Jvm.MethodName)) ∈ lw_all := lw_g (lw_at lw_m2 13 rfl) rfl
theorem q284 : (Jvm.Cond.code ({ cls := "ImpreciseDeskModel", name := "fits", desc := "()Z" } : Jvm.MethodName) prog_3_method_8_code (2 : Nat) (Option.some Jvm.ClassFile.FieldType.boolean)) ∈ lw_all := lw_g (lw_at lw_m2 14 rfl) rfl
theorem q285 : (Jvm.Cond.methodLink "ImpreciseDeskModel" (52 : Nat) ({ cls := "ImpreciseDeskModel", name := "measure", desc := "(I)V" } : Jvm.MethodName)) ∈ lw_all := lw_g (lw_at lw_m2 15 rfl) rfl
theorem q286 : (Jvm.Cond.privateMethod ({ cls := "ImpreciseDeskModel", name := "measure", desc := "(I)V" } : Jvm.MethodName)) ∈ lw_tbl := lw_at lw_m2 16 rfl
theorem q287 : (Jvm.Cond.instanceMethod ({ cls := "ImpreciseDeskModel", name := "measure", desc := "(I)V" } : Jvm.MethodName)) ∈ lw_all := lw_g (lw_at lw_m2 17 rfl) rfl
theorem q288 : (Jvm.Cond.code ({ cls := "ImpreciseDeskModel", name := "measure", desc := "(I)V" } : Jvm.MethodName) prog_3_method_6_code (4 : Nat) (Option.none : Option Jvm.ClassFile.FieldType)) ∈ lw_all := lw_g (lw_at lw_m2 18 rfl) rfl
theorem q289 : (Jvm.Cond.methodLink "ImpreciseDeskModel" (48 : Nat) ({ cls := "ImpreciseDeskModel", name := "covers", desc := "(II)Z" } : Jvm.MethodName)) ∈ lw_all := lw_g (lw_at lw_m2 19 rfl) rfl
theorem q290 : (Jvm.Cond.privateMethod ({ cls := "ImpreciseDeskModel", name := "covers", desc := "(II)Z" } : Jvm.MethodName)) ∈ lw_tbl := lw_at lw_m2 20 rfl
theorem q291 : (Jvm.Cond.instanceMethod ({ cls := "ImpreciseDeskModel", name := "covers", desc := "(II)Z" } : Jvm.MethodName)) ∈ lw_all := lw_g (lw_at lw_m2 21 rfl) rfl
theorem q292 : (Jvm.Cond.code ({ cls := "ImpreciseDeskModel", name := "covers", desc := "(II)Z" } : Jvm.MethodName) prog_3_method_5_code (5 : Nat) (Option.some Jvm.ClassFile.FieldType.boolean)) ∈ lw_all := lw_g (lw_at lw_m2 22 rfl) rfl
theorem q293 : (Jvm.Cond.methodLink "ImpreciseDeskModel" (56 : Nat) ({ cls := "ImpreciseDeskModel", name := "can", desc := "()Z" } : Jvm.MethodName)) ∈ lw_all := lw_g (lw_at lw_m2 23 rfl) rfl
theorem q294 : (Jvm.Cond.privateMethod ({ cls := "ImpreciseDeskModel", name := "can", desc := "()Z" } : Jvm.MethodName)) ∈ lw_tbl := lw_at lw_m2 24 rfl
theorem q295 : (Jvm.Cond.instanceMethod ({ cls := "ImpreciseDeskModel", name := "can", desc := "()Z" } : Jvm.MethodName)) ∈ lw_all := lw_g (lw_at lw_m2 25 rfl) rfl
theorem q296 : (Jvm.Cond.code ({ cls := "ImpreciseDeskModel", name := "can", desc := "()Z" } : Jvm.MethodName) prog_3_method_7_code (5 : Nat) (Option.some Jvm.ClassFile.FieldType.boolean)) ∈ lw_all := lw_g (lw_at lw_m2 26 rfl) rfl
theorem q298 : (Jvm.Cond.instanceMethod ({ cls := "ImpreciseDeskModel", name := "take", desc := "(I)Z" } : Jvm.MethodName)) ∈ lw_all := lw_g (lw_at lw_m2 28 rfl) rfl
theorem q299 : (Jvm.Cond.selects "ImpreciseDeskModel" ({ cls := "ImpreciseDeskModel", name := "take", desc := "(I)Z" } : Jvm.MethodName) ({ cls := "ImpreciseDeskModel", name := "take", desc := "(I)Z" } : Jvm.MethodName)) ∈ lw_all := lw_g (lw_at lw_m2 29 rfl) rfl
theorem q300 : (Jvm.Cond.code ({ cls := "ImpreciseDeskModel", name := "take", desc := "(I)Z" } : Jvm.MethodName) prog_3_method_10_code (2 : Nat) (Option.some Jvm.ClassFile.FieldType.boolean)) ∈ lw_all := lw_g (lw_at lw_m2 30 rfl) rfl
theorem q301 : (Jvm.Cond.methodLink "ImpreciseDeskModel" (71 : Nat) ({ cls := "ImpreciseDeskModel", name := "is", desc := "(I)Z" } : Jvm.MethodName)) ∈ lw_all := lw_g (lw_at lw_m2 31 rfl) rfl
theorem q302 : (Jvm.Cond.privateMethod ({ cls := "ImpreciseDeskModel", name := "is", desc := "(I)Z" } : Jvm.MethodName)) ∈ lw_tbl := lw_at lw_m2 32 rfl
theorem q303 : (Jvm.Cond.instanceMethod ({ cls := "ImpreciseDeskModel", name := "is", desc := "(I)Z" } : Jvm.MethodName)) ∈ lw_all := lw_g (lw_at lw_m2 33 rfl) rfl
theorem q304 : (Jvm.Cond.code ({ cls := "ImpreciseDeskModel", name := "is", desc := "(I)Z" } : Jvm.MethodName) prog_3_method_2_code (2 : Nat) (Option.some Jvm.ClassFile.FieldType.boolean)) ∈ lw_all := lw_g (lw_at lw_m2 34 rfl) rfl
theorem q306 : (Jvm.Cond.instanceMethod ({ cls := "ImpreciseDeskModel", name := "block", desc := "(IZ)I" } : Jvm.MethodName)) ∈ lw_all := lw_g (lw_at lw_m2 36 rfl) rfl
theorem q307 : (Jvm.Cond.selects "ImpreciseDeskModel" ({ cls := "ImpreciseDeskModel", name := "block", desc := "(IZ)I" } : Jvm.MethodName) ({ cls := "ImpreciseDeskModel", name := "block", desc := "(IZ)I" } : Jvm.MethodName)) ∈ lw_all := lw_g (lw_at lw_m2 37 rfl) rfl
theorem q308 : (Jvm.Cond.code ({ cls := "ImpreciseDeskModel", name := "block", desc := "(IZ)I" } : Jvm.MethodName) prog_3_method_11_code (4 : Nat) (Option.some Jvm.ClassFile.FieldType.int)) ∈ lw_all := lw_g (lw_at lw_m2 38 rfl) rfl
theorem q310 : (Jvm.Cond.instanceMethod ({ cls := "ImpreciseDeskModel", name := "change", desc := "(II)I" } : Jvm.MethodName)) ∈ lw_all := lw_g (lw_at lw_m2 40 rfl) rfl
theorem q311 : (Jvm.Cond.selects "ImpreciseDeskModel" ({ cls := "ImpreciseDeskModel", name := "change", desc := "(II)I" } : Jvm.MethodName) ({ cls := "ImpreciseDeskModel", name := "change", desc := "(II)I" } : Jvm.MethodName)) ∈ lw_all := lw_g (lw_at lw_m2 41 rfl) rfl
theorem q312 : (Jvm.Cond.code ({ cls := "ImpreciseDeskModel", name := "change", desc := "(II)I" } : Jvm.MethodName) prog_3_method_12_code (4 : Nat) (Option.some Jvm.ClassFile.FieldType.int)) ∈ lw_all := lw_g (lw_at lw_m2 42 rfl) rfl
theorem q314 : (Jvm.Cond.instanceMethod ({ cls := "ImpreciseDeskModel", name := "tasks", desc := "()I" } : Jvm.MethodName)) ∈ lw_all := lw_g (lw_at lw_m2 44 rfl) rfl
theorem q315 : (Jvm.Cond.selects "ImpreciseDeskModel" ({ cls := "ImpreciseDeskModel", name := "tasks", desc := "()I" } : Jvm.MethodName) ({ cls := "ImpreciseDeskModel", name := "tasks", desc := "()I" } : Jvm.MethodName)) ∈ lw_all := lw_g (lw_at lw_m2 45 rfl) rfl
theorem q316 : (Jvm.Cond.code ({ cls := "ImpreciseDeskModel", name := "tasks", desc := "()I" } : Jvm.MethodName) prog_3_method_13_code (3 : Nat) (Option.some Jvm.ClassFile.FieldType.int)) ∈ lw_all := lw_g (lw_at lw_m2 46 rfl) rfl
theorem q318 : (Jvm.Cond.instanceMethod ({ cls := "ImpreciseDeskModel", name := "blocked", desc := "()I" } : Jvm.MethodName)) ∈ lw_all := lw_g (lw_at lw_m2 48 rfl) rfl
theorem q319 : (Jvm.Cond.selects "ImpreciseDeskModel" ({ cls := "ImpreciseDeskModel", name := "blocked", desc := "()I" } : Jvm.MethodName) ({ cls := "ImpreciseDeskModel", name := "blocked", desc := "()I" } : Jvm.MethodName)) ∈ lw_all := lw_g (lw_at lw_m2 49 rfl) rfl
theorem q320 : (Jvm.Cond.code ({ cls := "ImpreciseDeskModel", name := "blocked", desc := "()I" } : Jvm.MethodName) prog_3_method_14_code (1 : Nat) (Option.some Jvm.ClassFile.FieldType.int)) ∈ lw_all := lw_g (lw_at lw_m2 50 rfl) rfl
theorem q322 : (Jvm.Cond.instanceMethod ({ cls := "ImpreciseDeskModel", name := "loss", desc := "()I" } : Jvm.MethodName)) ∈ lw_all := lw_g (lw_at lw_m2 52 rfl) rfl
theorem q323 : (Jvm.Cond.selects "ImpreciseDeskModel" ({ cls := "ImpreciseDeskModel", name := "loss", desc := "()I" } : Jvm.MethodName) ({ cls := "ImpreciseDeskModel", name := "loss", desc := "()I" } : Jvm.MethodName)) ∈ lw_all := lw_g (lw_at lw_m2 53 rfl) rfl
theorem q324 : (Jvm.Cond.code ({ cls := "ImpreciseDeskModel", name := "loss", desc := "()I" } : Jvm.MethodName) prog_3_method_22_code (1 : Nat) (Option.some Jvm.ClassFile.FieldType.int)) ∈ lw_all := lw_g (lw_at lw_m2 54 rfl) rfl
theorem q325 : (Jvm.Cond.methodLink "ImpreciseDeskModel" (98 : Nat) ({ cls := "ImpreciseDeskModel", name := "tryAll", desc := "()I" } : Jvm.MethodName)) ∈ lw_all := lw_g (lw_at lw_m2 55 rfl) rfl
theorem q326 : (Jvm.Cond.privateMethod ({ cls := "ImpreciseDeskModel", name := "tryAll", desc := "()I" } : Jvm.MethodName)) ∈ lw_tbl := lw_at lw_m2 56 rfl
theorem q327 : (Jvm.Cond.instanceMethod ({ cls := "ImpreciseDeskModel", name := "tryAll", desc := "()I" } : Jvm.MethodName)) ∈ lw_all := lw_g (lw_at lw_m2 57 rfl) rfl
theorem q328 : (Jvm.Cond.code ({ cls := "ImpreciseDeskModel", name := "tryAll", desc := "()I" } : Jvm.MethodName) prog_3_method_19_code (5 : Nat) (Option.some Jvm.ClassFile.FieldType.int)) ∈ lw_all := lw_g (lw_at lw_m2 58 rfl) rfl
theorem q329 : (Jvm.Cond.methodLink "ImpreciseDeskModel" (80 : Nat) ({ cls := "ImpreciseDeskModel", name := "sort", desc := "()V" } : Jvm.MethodName)) ∈ lw_all := lw_g (lw_at lw_m2 59 rfl) rfl
theorem q330 : (Jvm.Cond.privateMethod ({ cls := "ImpreciseDeskModel", name := "sort", desc := "()V" } : Jvm.MethodName)) ∈ lw_tbl := lw_at lw_m2 60 rfl
theorem q331 : (Jvm.Cond.instanceMethod ({ cls := "ImpreciseDeskModel", name := "sort", desc := "()V" } : Jvm.MethodName)) ∈ lw_all := lw_g (lw_at lw_m2 61 rfl) rfl
theorem q332 : (Jvm.Cond.code ({ cls := "ImpreciseDeskModel", name := "sort", desc := "()V" } : Jvm.MethodName) prog_3_method_16_code (4 : Nat) (Option.none : Option Jvm.ClassFile.FieldType)) ∈ lw_all := lw_g (lw_at lw_m2 62 rfl) rfl
theorem q333 : (Jvm.Cond.methodLink "ImpreciseDeskModel" (77 : Nat) ({ cls := "ImpreciseDeskModel", name := "before", desc := "(II)Z" } : Jvm.MethodName)) ∈ lw_all := lw_g (lw_at lw_m2 63 rfl) rfl
theorem q334 : (Jvm.Cond.privateMethod ({ cls := "ImpreciseDeskModel", name := "before", desc := "(II)Z" } : Jvm.MethodName)) ∈ lw_tbl := lw_at lw_m2 64 rfl
theorem q335 : (Jvm.Cond.instanceMethod ({ cls := "ImpreciseDeskModel", name := "before", desc := "(II)Z" } : Jvm.MethodName)) ∈ lw_all := lw_g (lw_at lw_m2 65 rfl) rfl
theorem q336 : (Jvm.Cond.code ({ cls := "ImpreciseDeskModel", name := "before", desc := "(II)Z" } : Jvm.MethodName) prog_3_method_15_code (3 : Nat) (Option.some Jvm.ClassFile.FieldType.boolean)) ∈ lw_all := lw_g (lw_at lw_m2 66 rfl) rfl
theorem q337 : (Jvm.Cond.constant "ImpreciseDeskModel" (83 : Nat) (100000 : Int32)) ∈ lw_all := lw_g (lw_at lw_m2 67 rfl) rfl
theorem q338 : (Jvm.Cond.constant "ImpreciseDeskModel" (84 : Nat) (117649 : Int32)) ∈ lw_all := lw_g (lw_at lw_m2 68 rfl) rfl
theorem q339 : (Jvm.Cond.methodLink "ImpreciseDeskModel" (85 : Nat) ({ cls := "ImpreciseDeskModel", name := "lost", desc := "()I" } : Jvm.MethodName)) ∈ lw_all := lw_g (lw_at lw_m2 69 rfl) rfl
theorem q340 : (Jvm.Cond.privateMethod ({ cls := "ImpreciseDeskModel", name := "lost", desc := "()I" } : Jvm.MethodName)) ∈ lw_tbl := lw_at lw_m2 70 rfl
theorem q341 : (Jvm.Cond.instanceMethod ({ cls := "ImpreciseDeskModel", name := "lost", desc := "()I" } : Jvm.MethodName)) ∈ lw_all := lw_g (lw_at lw_m2 71 rfl) rfl
theorem q342 : (Jvm.Cond.code ({ cls := "ImpreciseDeskModel", name := "lost", desc := "()I" } : Jvm.MethodName) prog_3_method_18_code (3 : Nat) (Option.some Jvm.ClassFile.FieldType.int)) ∈ lw_all := lw_g (lw_at lw_m2 72 rfl) rfl
theorem q343 : (Jvm.Cond.methodLink "ImpreciseDeskModel" (89 : Nat) ({ cls := "ImpreciseDeskModel", name := "possible", desc := "()Z" } : Jvm.MethodName)) ∈ lw_all := lw_g (lw_at lw_m2 73 rfl) rfl
theorem q344 : (Jvm.Cond.privateMethod ({ cls := "ImpreciseDeskModel", name := "possible", desc := "()Z" } : Jvm.MethodName)) ∈ lw_tbl := lw_at lw_m2 74 rfl
theorem q345 : (Jvm.Cond.instanceMethod ({ cls := "ImpreciseDeskModel", name := "possible", desc := "()Z" } : Jvm.MethodName)) ∈ lw_all := lw_g (lw_at lw_m2 75 rfl) rfl
theorem q346 : (Jvm.Cond.code ({ cls := "ImpreciseDeskModel", name := "possible", desc := "()Z" } : Jvm.MethodName) prog_3_method_20_code (2 : Nat) (Option.some Jvm.ClassFile.FieldType.boolean)) ∈ lw_all := lw_g (lw_at lw_m2 76 rfl) rfl
theorem q347 : (Jvm.Cond.methodLink "ImpreciseDeskModel" (92 : Nat) ({ cls := "ImpreciseDeskModel", name := "keepBest", desc := "()V" } : Jvm.MethodName)) ∈ lw_all := lw_g (lw_at lw_m2 77 rfl) rfl
theorem q348 : (Jvm.Cond.privateMethod ({ cls := "ImpreciseDeskModel", name := "keepBest", desc := "()V" } : Jvm.MethodName)) ∈ lw_tbl := lw_at lw_m2 78 rfl
theorem q349 : (Jvm.Cond.instanceMethod ({ cls := "ImpreciseDeskModel", name := "keepBest", desc := "()V" } : Jvm.MethodName)) ∈ lw_all := lw_g (lw_at lw_m2 79 rfl) rfl
theorem q350 : (Jvm.Cond.code ({ cls := "ImpreciseDeskModel", name := "keepBest", desc := "()V" } : Jvm.MethodName) prog_3_method_21_code (2 : Nat) (Option.none : Option Jvm.ClassFile.FieldType)) ∈ lw_all := lw_g (lw_at lw_m2 80 rfl) rfl
theorem q351 : (Jvm.Cond.methodLink "ImpreciseDeskModel" (95 : Nat) ({ cls := "ImpreciseDeskModel", name := "next", desc := "()Z" } : Jvm.MethodName)) ∈ lw_all := lw_g (lw_at lw_m2 81 rfl) rfl
theorem q352 : (Jvm.Cond.privateMethod ({ cls := "ImpreciseDeskModel", name := "next", desc := "()Z" } : Jvm.MethodName)) ∈ lw_tbl := lw_at lw_m2 82 rfl
theorem q353 : (Jvm.Cond.instanceMethod ({ cls := "ImpreciseDeskModel", name := "next", desc := "()Z" } : Jvm.MethodName)) ∈ lw_all := lw_g (lw_at lw_m2 83 rfl) rfl
theorem q354 : (Jvm.Cond.code ({ cls := "ImpreciseDeskModel", name := "next", desc := "()Z" } : Jvm.MethodName) prog_3_method_17_code (3 : Nat) (Option.some Jvm.ClassFile.FieldType.boolean)) ∈ lw_all := lw_g (lw_at lw_m2 84 rfl) rfl
theorem q356 : (Jvm.Cond.instanceMethod ({ cls := "ImpreciseDeskModel", name := "kept", desc := "(I)I" } : Jvm.MethodName)) ∈ lw_all := lw_g (lw_at lw_m2 86 rfl) rfl
theorem q357 : (Jvm.Cond.selects "ImpreciseDeskModel" ({ cls := "ImpreciseDeskModel", name := "kept", desc := "(I)I" } : Jvm.MethodName) ({ cls := "ImpreciseDeskModel", name := "kept", desc := "(I)I" } : Jvm.MethodName)) ∈ lw_all := lw_g (lw_at lw_m2 87 rfl) rfl
theorem q358 : (Jvm.Cond.code ({ cls := "ImpreciseDeskModel", name := "kept", desc := "(I)I" } : Jvm.MethodName) prog_3_method_23_code (2 : Nat) (Option.some Jvm.ClassFile.FieldType.int)) ∈ lw_all := lw_g (lw_at lw_m2 88 rfl) rfl
theorem q360 : (Jvm.Cond.instanceMethod ({ cls := "ImpreciseDeskModel", name := "at", desc := "(I)I" } : Jvm.MethodName)) ∈ lw_all := lw_g (lw_at lw_m2 90 rfl) rfl
theorem q361 : (Jvm.Cond.selects "ImpreciseDeskModel" ({ cls := "ImpreciseDeskModel", name := "at", desc := "(I)I" } : Jvm.MethodName) ({ cls := "ImpreciseDeskModel", name := "at", desc := "(I)I" } : Jvm.MethodName)) ∈ lw_all := lw_g (lw_at lw_m2 91 rfl) rfl
theorem q362 : (Jvm.Cond.code ({ cls := "ImpreciseDeskModel", name := "at", desc := "(I)I" } : Jvm.MethodName) prog_3_method_25_code (4 : Nat) (Option.some Jvm.ClassFile.FieldType.int)) ∈ lw_all := lw_g (lw_at lw_m2 92 rfl) rfl
theorem q363 : (Jvm.Cond.methodLink "ImpreciseDeskModel" (101 : Nat) ({ cls := "ImpreciseDeskModel", name := "give", desc := "(I)I" } : Jvm.MethodName)) ∈ lw_all := lw_g (lw_at lw_m2 93 rfl) rfl
theorem q364 : (Jvm.Cond.privateMethod ({ cls := "ImpreciseDeskModel", name := "give", desc := "(I)I" } : Jvm.MethodName)) ∈ lw_tbl := lw_at lw_m2 94 rfl
theorem q365 : (Jvm.Cond.instanceMethod ({ cls := "ImpreciseDeskModel", name := "give", desc := "(I)I" } : Jvm.MethodName)) ∈ lw_all := lw_g (lw_at lw_m2 95 rfl) rfl
theorem q366 : (Jvm.Cond.code ({ cls := "ImpreciseDeskModel", name := "give", desc := "(I)I" } : Jvm.MethodName) prog_3_method_24_code (3 : Nat) (Option.some Jvm.ClassFile.FieldType.int)) ∈ lw_all := lw_g (lw_at lw_m2 96 rfl) rfl
theorem q368 : (Jvm.Cond.instanceMethod ({ cls := "ImpreciseDeskModel", name := "greatestMust", desc := "(I)I" } : Jvm.MethodName)) ∈ lw_all := lw_g (lw_at lw_m2 98 rfl) rfl
theorem q369 : (Jvm.Cond.selects "ImpreciseDeskModel" ({ cls := "ImpreciseDeskModel", name := "greatestMust", desc := "(I)I" } : Jvm.MethodName) ({ cls := "ImpreciseDeskModel", name := "greatestMust", desc := "(I)I" } : Jvm.MethodName)) ∈ lw_all := lw_g (lw_at lw_m2 99 rfl) rfl
theorem q370 : (Jvm.Cond.code ({ cls := "ImpreciseDeskModel", name := "greatestMust", desc := "(I)I" } : Jvm.MethodName) prog_3_method_26_code (5 : Nat) (Option.some Jvm.ClassFile.FieldType.int)) ∈ lw_all := lw_g (lw_at lw_m2 100 rfl) rfl
theorem q372 : (Jvm.Cond.instanceMethod ({ cls := "ImpreciseDeskModel", name := "lossWithout", desc := "(I)I" } : Jvm.MethodName)) ∈ lw_all := lw_g (lw_at lw_m2 102 rfl) rfl
theorem q373 : (Jvm.Cond.selects "ImpreciseDeskModel" ({ cls := "ImpreciseDeskModel", name := "lossWithout", desc := "(I)I" } : Jvm.MethodName) ({ cls := "ImpreciseDeskModel", name := "lossWithout", desc := "(I)I" } : Jvm.MethodName)) ∈ lw_all := lw_g (lw_at lw_m2 103 rfl) rfl
theorem q374 : (Jvm.Cond.code ({ cls := "ImpreciseDeskModel", name := "lossWithout", desc := "(I)I" } : Jvm.MethodName) prog_3_method_27_code (4 : Nat) (Option.some Jvm.ClassFile.FieldType.int)) ∈ lw_all := lw_g (lw_at lw_m2 104 rfl) rfl
theorem q376 : (Jvm.Cond.instanceMethod ({ cls := "ImpreciseDeskModel", name := "freeable", desc := "(II)I" } : Jvm.MethodName)) ∈ lw_all := lw_g (lw_at lw_m2 106 rfl) rfl
theorem q377 : (Jvm.Cond.selects "ImpreciseDeskModel" ({ cls := "ImpreciseDeskModel", name := "freeable", desc := "(II)I" } : Jvm.MethodName) ({ cls := "ImpreciseDeskModel", name := "freeable", desc := "(II)I" } : Jvm.MethodName)) ∈ lw_all := lw_g (lw_at lw_m2 107 rfl) rfl
theorem q378 : (Jvm.Cond.code ({ cls := "ImpreciseDeskModel", name := "freeable", desc := "(II)I" } : Jvm.MethodName) prog_3_method_28_code (6 : Nat) (Option.some Jvm.ClassFile.FieldType.int)) ∈ lw_all := lw_g (lw_at lw_m2 108 rfl) rfl
theorem q379 : (Jvm.Cond.methodLink "ImpreciseDeskModel" (105 : Nat) ({ cls := "ImpreciseDeskModel", name := "block", desc := "(IZ)I" } : Jvm.MethodName)) ∈ lw_all := lw_g (lw_at lw_m2 109 rfl) rfl
theorem q381 : (Jvm.Cond.instanceMethod ({ cls := "ImpreciseDeskModel", name := "idle", desc := "()I" } : Jvm.MethodName)) ∈ lw_all := lw_g (lw_at lw_m2 111 rfl) rfl
theorem q382 : (Jvm.Cond.selects "ImpreciseDeskModel" ({ cls := "ImpreciseDeskModel", name := "idle", desc := "()I" } : Jvm.MethodName) ({ cls := "ImpreciseDeskModel", name := "idle", desc := "()I" } : Jvm.MethodName)) ∈ lw_all := lw_g (lw_at lw_m2 112 rfl) rfl
theorem q383 : (Jvm.Cond.code ({ cls := "ImpreciseDeskModel", name := "idle", desc := "()I" } : Jvm.MethodName) prog_3_method_29_code (3 : Nat) (Option.some Jvm.ClassFile.FieldType.int)) ∈ lw_all := lw_g (lw_at lw_m2 113 rfl) rfl
theorem in_X1 : ∀ w ∈ wsX10, w ∈ lw_all := lw_in wsX10 [240, 242, 244, 246, 248, 250, 252, 254, 256, 258, 260, 262, 264] (by decide +kernel) (by decide +kernel)
/-! the law's own entry -/
abbrev cL_law : ByteArray := code
end
section
set_option maxRecDepth 100000
theorem dX0_init_0 : decode cX0_init 0 = .ok (.aload_n 0, 1) := by decide +kernel
theorem dX0_init_1 : decode cX0_init 1 = .ok (.invokespecial 1, 3) := by decide +kernel
theorem dX0_init_4 : decode cX0_init 4 = .ok (.aload_n 0, 1) := by decide +kernel
theorem dX0_init_5 : decode cX0_init 5 = .ok (.bipush 6, 2) := by decide +kernel
theorem dX0_init_7 : decode cX0_init 7 = .ok (.newarray .byte, 2) := by decide +kernel
theorem dX0_init_9 : decode cX0_init 9 = .ok (.putfield 7, 3) := by decide +kernel
theorem dX0_init_12 : decode cX0_init 12 = .ok (.aload_n 0, 1) := by decide +kernel
theorem dX0_init_13 : decode cX0_init 13 = .ok (.bipush 6, 2) := by decide +kernel
theorem dX0_init_15 : decode cX0_init 15 = .ok (.newarray .byte, 2) := by decide +kernel
theorem dX0_init_17 : decode cX0_init 17 = .ok (.putfield 13, 3) := by decide +kernel
theorem dX0_init_20 : decode cX0_init 20 = .ok (.aload_n 0, 1) := by decide +kernel
theorem dX0_init_21 : decode cX0_init 21 = .ok (.bipush 6, 2) := by decide +kernel
theorem dX0_init_23 : decode cX0_init 23 = .ok (.newarray .byte, 2) := by decide +kernel
theorem dX0_init_25 : decode cX0_init 25 = .ok (.putfield 16, 3) := by decide +kernel
theorem dX0_init_28 : decode cX0_init 28 = .ok (.aload_n 0, 1) := by decide +kernel
theorem dX0_init_29 : decode cX0_init 29 = .ok (.bipush 6, 2) := by decide +kernel
theorem dX0_init_31 : decode cX0_init 31 = .ok (.newarray .byte, 2) := by decide +kernel
theorem dX0_init_33 : decode cX0_init 33 = .ok (.putfield 19, 3) := by decide +kernel
theorem dX0_init_36 : decode cX0_init 36 = .ok (.aload_n 0, 1) := by decide +kernel
theorem dX0_init_37 : decode cX0_init 37 = .ok (.bipush 6, 2) := by decide +kernel
theorem dX0_init_39 : decode cX0_init 39 = .ok (.newarray .byte, 2) := by decide +kernel
theorem dX0_init_41 : decode cX0_init 41 = .ok (.putfield 22, 3) := by decide +kernel
theorem dX0_init_44 : decode cX0_init 44 = .ok (.aload_n 0, 1) := by decide +kernel
theorem dX0_init_45 : decode cX0_init 45 = .ok (.bipush 24, 2) := by decide +kernel
theorem dX0_init_47 : decode cX0_init 47 = .ok (.newarray .byte, 2) := by decide +kernel
theorem dX0_init_49 : decode cX0_init 49 = .ok (.putfield 25, 3) := by decide +kernel
theorem dX0_init_52 : decode cX0_init 52 = .ok (.aload_n 0, 1) := by decide +kernel
theorem dX0_init_53 : decode cX0_init 53 = .ok (.bipush 8, 2) := by decide +kernel
theorem dX0_init_55 : decode cX0_init 55 = .ok (.newarray .byte, 2) := by decide +kernel
theorem dX0_init_57 : decode cX0_init 57 = .ok (.putfield 28, 3) := by decide +kernel
theorem dX0_init_60 : decode cX0_init 60 = .ok (.aload_n 0, 1) := by decide +kernel
theorem dX0_init_61 : decode cX0_init 61 = .ok (.bipush 6, 2) := by decide +kernel
theorem dX0_init_63 : decode cX0_init 63 = .ok (.newarray .byte, 2) := by decide +kernel
theorem dX0_init_65 : decode cX0_init 65 = .ok (.putfield 31, 3) := by decide +kernel
theorem dX0_init_68 : decode cX0_init 68 = .ok (.aload_n 0, 1) := by decide +kernel
theorem dX0_init_69 : decode cX0_init 69 = .ok (.bipush 6, 2) := by decide +kernel
theorem dX0_init_71 : decode cX0_init 71 = .ok (.newarray .byte, 2) := by decide +kernel
theorem dX0_init_73 : decode cX0_init 73 = .ok (.putfield 34, 3) := by decide +kernel
theorem dX0_init_76 : decode cX0_init 76 = .ok (.aload_n 0, 1) := by decide +kernel
theorem dX0_init_77 : decode cX0_init 77 = .ok (.bipush 6, 2) := by decide +kernel
theorem dX0_init_79 : decode cX0_init 79 = .ok (.newarray .byte, 2) := by decide +kernel
theorem dX0_init_81 : decode cX0_init 81 = .ok (.putfield 37, 3) := by decide +kernel
theorem dX0_init_84 : decode cX0_init 84 = .ok (.aload_n 0, 1) := by decide +kernel
theorem dX0_init_85 : decode cX0_init 85 = .ok (.bipush 24, 2) := by decide +kernel
theorem dX0_init_87 : decode cX0_init 87 = .ok (.newarray .byte, 2) := by decide +kernel
theorem dX0_init_89 : decode cX0_init 89 = .ok (.putfield 40, 3) := by decide +kernel
theorem dX0_init_92 : decode cX0_init 92 = .ok (.aload_n 0, 1) := by decide +kernel
theorem dX0_init_93 : decode cX0_init 93 = .ok (.bipush 6, 2) := by decide +kernel
theorem dX0_init_95 : decode cX0_init 95 = .ok (.newarray .byte, 2) := by decide +kernel
theorem dX0_init_97 : decode cX0_init 97 = .ok (.putfield 43, 3) := by decide +kernel
theorem dX0_init_100 : decode cX0_init 100 = .ok (.return_, 1) := by decide +kernel
theorem dX0_bring_0 : decode cX0_bring 0 = .ok (.iload_n 1, 1) := by decide +kernel
theorem dX0_bring_1 : decode cX0_bring 1 = .ok (.ifCond .lt 21, 3) := by decide +kernel
theorem dX0_bring_4 : decode cX0_bring 4 = .ok (.iload_n 2, 1) := by decide +kernel
theorem dX0_bring_5 : decode cX0_bring 5 = .ok (.bipush 24, 2) := by decide +kernel
theorem dX0_bring_7 : decode cX0_bring 7 = .ok (.if_icmp .gt 15, 3) := by decide +kernel
theorem dX0_bring_10 : decode cX0_bring 10 = .ok (.iload_n 1, 1) := by decide +kernel
theorem dX0_bring_11 : decode cX0_bring 11 = .ok (.iload_n 2, 1) := by decide +kernel
theorem dX0_bring_12 : decode cX0_bring 12 = .ok (.if_icmp .ge 10, 3) := by decide +kernel
theorem dX0_bring_15 : decode cX0_bring 15 = .ok (.iload_n 3, 1) := by decide +kernel
theorem dX0_bring_16 : decode cX0_bring 16 = .ok (.invokestatic 54, 3) := by decide +kernel
theorem dX0_bring_19 : decode cX0_bring 19 = .ok (.ifCond .ne 5, 3) := by decide +kernel
theorem dX0_bring_22 : decode cX0_bring 22 = .ok (.iconst (-1), 1) := by decide +kernel
theorem dX0_bring_23 : decode cX0_bring 23 = .ok (.ireturn, 1) := by decide +kernel
theorem dX0_bring_24 : decode cX0_bring 24 = .ok (.iconst 0, 1) := by decide +kernel
theorem dX0_bring_25 : decode cX0_bring 25 = .ok (.istore 4, 2) := by decide +kernel
theorem dX0_bring_27 : decode cX0_bring 27 = .ok (.iload 4, 2) := by decide +kernel
theorem dX0_bring_29 : decode cX0_bring 29 = .ok (.bipush 6, 2) := by decide +kernel
theorem dX0_bring_31 : decode cX0_bring 31 = .ok (.if_icmp .ge 84, 3) := by decide +kernel
theorem dX0_bring_34 : decode cX0_bring 34 = .ok (.aload_n 0, 1) := by decide +kernel
theorem dX0_bring_35 : decode cX0_bring 35 = .ok (.iload 4, 2) := by decide +kernel
theorem dX0_bring_37 : decode cX0_bring 37 = .ok (.invokevirtual 58, 3) := by decide +kernel
theorem dX0_bring_40 : decode cX0_bring 40 = .ok (.ifCond .ne 69, 3) := by decide +kernel
theorem dX0_bring_43 : decode cX0_bring 43 = .ok (.aload_n 0, 1) := by decide +kernel
theorem dX0_bring_44 : decode cX0_bring 44 = .ok (.dup, 1) := by decide +kernel
theorem dX0_bring_45 : decode cX0_bring 45 = .ok (.getfield 46, 3) := by decide +kernel
theorem dX0_bring_48 : decode cX0_bring 48 = .ok (.iconst 1, 1) := by decide +kernel
theorem dX0_bring_49 : decode cX0_bring 49 = .ok (.iload 4, 2) := by decide +kernel
theorem dX0_bring_51 : decode cX0_bring 51 = .ok (.ishl, 1) := by decide +kernel
theorem dX0_bring_52 : decode cX0_bring 52 = .ok (.ior, 1) := by decide +kernel
theorem dX0_bring_53 : decode cX0_bring 53 = .ok (.putfield 46, 3) := by decide +kernel
theorem dX0_bring_56 : decode cX0_bring 56 = .ok (.aload_n 0, 1) := by decide +kernel
theorem dX0_bring_57 : decode cX0_bring 57 = .ok (.getfield 7, 3) := by decide +kernel
theorem dX0_bring_60 : decode cX0_bring 60 = .ok (.iload 4, 2) := by decide +kernel
theorem dX0_bring_62 : decode cX0_bring 62 = .ok (.iload_n 1, 1) := by decide +kernel
theorem dX0_bring_63 : decode cX0_bring 63 = .ok (.i2b, 1) := by decide +kernel
theorem dX0_bring_64 : decode cX0_bring 64 = .ok (.bastore, 1) := by decide +kernel
theorem dX0_bring_65 : decode cX0_bring 65 = .ok (.aload_n 0, 1) := by decide +kernel
theorem dX0_bring_66 : decode cX0_bring 66 = .ok (.getfield 13, 3) := by decide +kernel
theorem dX0_bring_69 : decode cX0_bring 69 = .ok (.iload 4, 2) := by decide +kernel
theorem dX0_bring_71 : decode cX0_bring 71 = .ok (.iload_n 2, 1) := by decide +kernel
theorem dX0_bring_72 : decode cX0_bring 72 = .ok (.i2b, 1) := by decide +kernel
theorem dX0_bring_73 : decode cX0_bring 73 = .ok (.bastore, 1) := by decide +kernel
theorem dX0_bring_74 : decode cX0_bring 74 = .ok (.aload_n 0, 1) := by decide +kernel
theorem dX0_bring_75 : decode cX0_bring 75 = .ok (.iload 4, 2) := by decide +kernel
theorem dX0_bring_77 : decode cX0_bring 77 = .ok (.iload_n 3, 1) := by decide +kernel
theorem dX0_bring_78 : decode cX0_bring 78 = .ok (.invokevirtual 61, 3) := by decide +kernel
theorem dX0_bring_81 : decode cX0_bring 81 = .ok (.aload_n 0, 1) := by decide +kernel
theorem dX0_bring_82 : decode cX0_bring 82 = .ok (.invokevirtual 65, 3) := by decide +kernel
theorem dX0_bring_85 : decode cX0_bring 85 = .ok (.ifCond .eq 6, 3) := by decide +kernel
theorem dX0_bring_88 : decode cX0_bring 88 = .ok (.iload 4, 2) := by decide +kernel
theorem dX0_bring_90 : decode cX0_bring 90 = .ok (.ireturn, 1) := by decide +kernel
theorem dX0_bring_91 : decode cX0_bring 91 = .ok (.aload_n 0, 1) := by decide +kernel
theorem dX0_bring_92 : decode cX0_bring 92 = .ok (.dup, 1) := by decide +kernel
theorem dX0_bring_93 : decode cX0_bring 93 = .ok (.getfield 46, 3) := by decide +kernel
theorem dX0_bring_96 : decode cX0_bring 96 = .ok (.iconst 1, 1) := by decide +kernel
theorem dX0_bring_97 : decode cX0_bring 97 = .ok (.iload 4, 2) := by decide +kernel
theorem dX0_bring_99 : decode cX0_bring 99 = .ok (.ishl, 1) := by decide +kernel
theorem dX0_bring_100 : decode cX0_bring 100 = .ok (.iconst (-1), 1) := by decide +kernel
theorem dX0_bring_101 : decode cX0_bring 101 = .ok (.ixor, 1) := by decide +kernel
theorem dX0_bring_102 : decode cX0_bring 102 = .ok (.iand, 1) := by decide +kernel
theorem dX0_bring_103 : decode cX0_bring 103 = .ok (.putfield 46, 3) := by decide +kernel
theorem dX0_bring_106 : decode cX0_bring 106 = .ok (.bipush (-3), 2) := by decide +kernel
theorem dX0_bring_108 : decode cX0_bring 108 = .ok (.ireturn, 1) := by decide +kernel
theorem dX0_bring_109 : decode cX0_bring 109 = .ok (.iinc 4 1, 3) := by decide +kernel
theorem dX0_bring_112 : decode cX0_bring 112 = .ok (.goto (-85), 3) := by decide +kernel
theorem dX0_bring_115 : decode cX0_bring 115 = .ok (.bipush (-2), 2) := by decide +kernel
theorem dX0_bring_117 : decode cX0_bring 117 = .ok (.ireturn, 1) := by decide +kernel
theorem dX0_packedOk_0 : decode cX0_packedOk 0 = .ok (.iload_n 0, 1) := by decide +kernel
theorem dX0_packedOk_1 : decode cX0_packedOk 1 = .ok (.bipush 6, 2) := by decide +kernel
theorem dX0_packedOk_3 : decode cX0_packedOk 3 = .ok (.ishr, 1) := by decide +kernel
theorem dX0_packedOk_4 : decode cX0_packedOk 4 = .ok (.istore_n 1, 1) := by decide +kernel
theorem dX0_packedOk_5 : decode cX0_packedOk 5 = .ok (.iload_n 0, 1) := by decide +kernel
theorem dX0_packedOk_6 : decode cX0_packedOk 6 = .ok (.bipush 7, 2) := by decide +kernel
theorem dX0_packedOk_8 : decode cX0_packedOk 8 = .ok (.iand, 1) := by decide +kernel
theorem dX0_packedOk_9 : decode cX0_packedOk 9 = .ok (.bipush 6, 2) := by decide +kernel
theorem dX0_packedOk_11 : decode cX0_packedOk 11 = .ok (.if_icmp .gt 29, 3) := by decide +kernel
theorem dX0_packedOk_14 : decode cX0_packedOk 14 = .ok (.iload_n 0, 1) := by decide +kernel
theorem dX0_packedOk_15 : decode cX0_packedOk 15 = .ok (.iconst 3, 1) := by decide +kernel
theorem dX0_packedOk_16 : decode cX0_packedOk 16 = .ok (.ishr, 1) := by decide +kernel
theorem dX0_packedOk_17 : decode cX0_packedOk 17 = .ok (.bipush 7, 2) := by decide +kernel
theorem dX0_packedOk_19 : decode cX0_packedOk 19 = .ok (.iand, 1) := by decide +kernel
theorem dX0_packedOk_20 : decode cX0_packedOk 20 = .ok (.bipush 6, 2) := by decide +kernel
theorem dX0_packedOk_22 : decode cX0_packedOk 22 = .ok (.if_icmp .gt 18, 3) := by decide +kernel
theorem dX0_packedOk_25 : decode cX0_packedOk 25 = .ok (.iload_n 1, 1) := by decide +kernel
theorem dX0_packedOk_26 : decode cX0_packedOk 26 = .ok (.iconst 1, 1) := by decide +kernel
theorem dX0_packedOk_27 : decode cX0_packedOk 27 = .ok (.if_icmp .lt 13, 3) := by decide +kernel
theorem dX0_packedOk_30 : decode cX0_packedOk 30 = .ok (.iload_n 1, 1) := by decide +kernel
theorem dX0_packedOk_31 : decode cX0_packedOk 31 = .ok (.bipush 9, 2) := by decide +kernel
theorem dX0_packedOk_33 : decode cX0_packedOk 33 = .ok (.if_icmp .gt 7, 3) := by decide +kernel
theorem dX0_packedOk_36 : decode cX0_packedOk 36 = .ok (.iconst 1, 1) := by decide +kernel
theorem dX0_packedOk_37 : decode cX0_packedOk 37 = .ok (.goto 4, 3) := by decide +kernel
theorem dX0_packedOk_40 : decode cX0_packedOk 40 = .ok (.iconst 0, 1) := by decide +kernel
theorem dX0_packedOk_41 : decode cX0_packedOk 41 = .ok (.ireturn, 1) := by decide +kernel
theorem dX0_has_0 : decode cX0_has 0 = .ok (.iload_n 1, 1) := by decide +kernel
theorem dX0_has_1 : decode cX0_has 1 = .ok (.ifCond .lt 24, 3) := by decide +kernel
theorem dX0_has_4 : decode cX0_has 4 = .ok (.iload_n 1, 1) := by decide +kernel
theorem dX0_has_5 : decode cX0_has 5 = .ok (.bipush 6, 2) := by decide +kernel
theorem dX0_has_7 : decode cX0_has 7 = .ok (.if_icmp .ge 18, 3) := by decide +kernel
theorem dX0_has_10 : decode cX0_has 10 = .ok (.aload_n 0, 1) := by decide +kernel
theorem dX0_has_11 : decode cX0_has 11 = .ok (.getfield 46, 3) := by decide +kernel
theorem dX0_has_14 : decode cX0_has 14 = .ok (.iload_n 1, 1) := by decide +kernel
theorem dX0_has_15 : decode cX0_has 15 = .ok (.ishr, 1) := by decide +kernel
theorem dX0_has_16 : decode cX0_has 16 = .ok (.iconst 1, 1) := by decide +kernel
theorem dX0_has_17 : decode cX0_has 17 = .ok (.iand, 1) := by decide +kernel
theorem dX0_has_18 : decode cX0_has 18 = .ok (.ifCond .eq 7, 3) := by decide +kernel
theorem dX0_has_21 : decode cX0_has 21 = .ok (.iconst 1, 1) := by decide +kernel
theorem dX0_has_22 : decode cX0_has 22 = .ok (.goto 4, 3) := by decide +kernel
theorem dX0_has_25 : decode cX0_has 25 = .ok (.iconst 0, 1) := by decide +kernel
theorem dX0_has_26 : decode cX0_has 26 = .ok (.ireturn, 1) := by decide +kernel
theorem dX0_unpack_0 : decode cX0_unpack 0 = .ok (.aload_n 0, 1) := by decide +kernel
theorem dX0_unpack_1 : decode cX0_unpack 1 = .ok (.getfield 16, 3) := by decide +kernel
theorem dX0_unpack_4 : decode cX0_unpack 4 = .ok (.iload_n 1, 1) := by decide +kernel
theorem dX0_unpack_5 : decode cX0_unpack 5 = .ok (.iload_n 2, 1) := by decide +kernel
theorem dX0_unpack_6 : decode cX0_unpack 6 = .ok (.bipush 7, 2) := by decide +kernel
theorem dX0_unpack_8 : decode cX0_unpack 8 = .ok (.iand, 1) := by decide +kernel
theorem dX0_unpack_9 : decode cX0_unpack 9 = .ok (.i2b, 1) := by decide +kernel
theorem dX0_unpack_10 : decode cX0_unpack 10 = .ok (.bastore, 1) := by decide +kernel
theorem dX0_unpack_11 : decode cX0_unpack 11 = .ok (.aload_n 0, 1) := by decide +kernel
theorem dX0_unpack_12 : decode cX0_unpack 12 = .ok (.getfield 19, 3) := by decide +kernel
theorem dX0_unpack_15 : decode cX0_unpack 15 = .ok (.iload_n 1, 1) := by decide +kernel
theorem dX0_unpack_16 : decode cX0_unpack 16 = .ok (.iload_n 2, 1) := by decide +kernel
theorem dX0_unpack_17 : decode cX0_unpack 17 = .ok (.iconst 3, 1) := by decide +kernel
theorem dX0_unpack_18 : decode cX0_unpack 18 = .ok (.ishr, 1) := by decide +kernel
theorem dX0_unpack_19 : decode cX0_unpack 19 = .ok (.bipush 7, 2) := by decide +kernel
theorem dX0_unpack_21 : decode cX0_unpack 21 = .ok (.iand, 1) := by decide +kernel
theorem dX0_unpack_22 : decode cX0_unpack 22 = .ok (.i2b, 1) := by decide +kernel
theorem dX0_unpack_23 : decode cX0_unpack 23 = .ok (.bastore, 1) := by decide +kernel
theorem dX0_unpack_24 : decode cX0_unpack 24 = .ok (.aload_n 0, 1) := by decide +kernel
theorem dX0_unpack_25 : decode cX0_unpack 25 = .ok (.getfield 22, 3) := by decide +kernel
theorem dX0_unpack_28 : decode cX0_unpack 28 = .ok (.iload_n 1, 1) := by decide +kernel
theorem dX0_unpack_29 : decode cX0_unpack 29 = .ok (.iload_n 2, 1) := by decide +kernel
theorem dX0_unpack_30 : decode cX0_unpack 30 = .ok (.bipush 6, 2) := by decide +kernel
theorem dX0_unpack_32 : decode cX0_unpack 32 = .ok (.ishr, 1) := by decide +kernel
theorem dX0_unpack_33 : decode cX0_unpack 33 = .ok (.i2b, 1) := by decide +kernel
theorem dX0_unpack_34 : decode cX0_unpack 34 = .ok (.bastore, 1) := by decide +kernel
theorem dX0_unpack_35 : decode cX0_unpack 35 = .ok (.aload_n 0, 1) := by decide +kernel
theorem dX0_unpack_36 : decode cX0_unpack 36 = .ok (.iconst 0, 1) := by decide +kernel
theorem dX0_unpack_37 : decode cX0_unpack 37 = .ok (.putfield 50, 3) := by decide +kernel
theorem dX0_unpack_40 : decode cX0_unpack 40 = .ok (.return_, 1) := by decide +kernel
theorem dX0_possible_0 : decode cX0_possible 0 = .ok (.aload_n 0, 1) := by decide +kernel
theorem dX0_possible_1 : decode cX0_possible 1 = .ok (.aload_n 0, 1) := by decide +kernel
theorem dX0_possible_2 : decode cX0_possible 2 = .ok (.getfield 69, 3) := by decide +kernel
theorem dX0_possible_5 : decode cX0_possible 5 = .ok (.invokevirtual 98, 3) := by decide +kernel
theorem dX0_possible_8 : decode cX0_possible 8 = .ok (.aload_n 0, 1) := by decide +kernel
theorem dX0_possible_9 : decode cX0_possible 9 = .ok (.invokevirtual 102, 3) := by decide +kernel
theorem dX0_possible_12 : decode cX0_possible 12 = .ok (.ireturn, 1) := by decide +kernel
theorem dX0_begin_0 : decode cX0_begin 0 = .ok (.aload_n 0, 1) := by decide +kernel
theorem dX0_begin_1 : decode cX0_begin 1 = .ok (.iload_n 1, 1) := by decide +kernel
theorem dX0_begin_2 : decode cX0_begin 2 = .ok (.putfield 72, 3) := by decide +kernel
theorem dX0_begin_5 : decode cX0_begin 5 = .ok (.iconst 0, 1) := by decide +kernel
theorem dX0_begin_6 : decode cX0_begin 6 = .ok (.istore_n 2, 1) := by decide +kernel
theorem dX0_begin_7 : decode cX0_begin 7 = .ok (.iload_n 2, 1) := by decide +kernel
theorem dX0_begin_8 : decode cX0_begin 8 = .ok (.bipush 24, 2) := by decide +kernel
theorem dX0_begin_10 : decode cX0_begin 10 = .ok (.if_icmp .ge 16, 3) := by decide +kernel
theorem dX0_begin_13 : decode cX0_begin 13 = .ok (.aload_n 0, 1) := by decide +kernel
theorem dX0_begin_14 : decode cX0_begin 14 = .ok (.getfield 25, 3) := by decide +kernel
theorem dX0_begin_17 : decode cX0_begin 17 = .ok (.iload_n 2, 1) := by decide +kernel
theorem dX0_begin_18 : decode cX0_begin 18 = .ok (.iconst (-1), 1) := by decide +kernel
theorem dX0_begin_19 : decode cX0_begin 19 = .ok (.bastore, 1) := by decide +kernel
theorem dX0_begin_20 : decode cX0_begin 20 = .ok (.iinc 2 1, 3) := by decide +kernel
theorem dX0_begin_23 : decode cX0_begin 23 = .ok (.goto (-16), 3) := by decide +kernel
theorem dX0_begin_26 : decode cX0_begin 26 = .ok (.return_, 1) := by decide +kernel
theorem dX0_giveMusts_0 : decode cX0_giveMusts 0 = .ok (.iconst 0, 1) := by decide +kernel
theorem dX0_giveMusts_1 : decode cX0_giveMusts 1 = .ok (.istore_n 1, 1) := by decide +kernel
theorem dX0_giveMusts_2 : decode cX0_giveMusts 2 = .ok (.iload_n 1, 1) := by decide +kernel
theorem dX0_giveMusts_3 : decode cX0_giveMusts 3 = .ok (.bipush 6, 2) := by decide +kernel
theorem dX0_giveMusts_5 : decode cX0_giveMusts 5 = .ok (.if_icmp .ge 33, 3) := by decide +kernel
theorem dX0_giveMusts_8 : decode cX0_giveMusts 8 = .ok (.aload_n 0, 1) := by decide +kernel
theorem dX0_giveMusts_9 : decode cX0_giveMusts 9 = .ok (.iload_n 1, 1) := by decide +kernel
theorem dX0_giveMusts_10 : decode cX0_giveMusts 10 = .ok (.invokevirtual 58, 3) := by decide +kernel
theorem dX0_giveMusts_13 : decode cX0_giveMusts 13 = .ok (.ifCond .eq 19, 3) := by decide +kernel
theorem dX0_giveMusts_16 : decode cX0_giveMusts 16 = .ok (.aload_n 0, 1) := by decide +kernel
theorem dX0_giveMusts_17 : decode cX0_giveMusts 17 = .ok (.iload_n 1, 1) := by decide +kernel
theorem dX0_giveMusts_18 : decode cX0_giveMusts 18 = .ok (.aload_n 0, 1) := by decide +kernel
theorem dX0_giveMusts_19 : decode cX0_giveMusts 19 = .ok (.getfield 16, 3) := by decide +kernel
theorem dX0_giveMusts_22 : decode cX0_giveMusts 22 = .ok (.iload_n 1, 1) := by decide +kernel
theorem dX0_giveMusts_23 : decode cX0_giveMusts 23 = .ok (.baload, 1) := by decide +kernel
theorem dX0_giveMusts_24 : decode cX0_giveMusts 24 = .ok (.invokevirtual 95, 3) := by decide +kernel
theorem dX0_giveMusts_27 : decode cX0_giveMusts 27 = .ok (.ifCond .ne 5, 3) := by decide +kernel
theorem dX0_giveMusts_30 : decode cX0_giveMusts 30 = .ok (.iconst 0, 1) := by decide +kernel
theorem dX0_giveMusts_31 : decode cX0_giveMusts 31 = .ok (.ireturn, 1) := by decide +kernel
theorem dX0_giveMusts_32 : decode cX0_giveMusts 32 = .ok (.iinc 1 1, 3) := by decide +kernel
theorem dX0_giveMusts_35 : decode cX0_giveMusts 35 = .ok (.goto (-33), 3) := by decide +kernel
theorem dX0_giveMusts_38 : decode cX0_giveMusts 38 = .ok (.iconst 1, 1) := by decide +kernel
theorem dX0_giveMusts_39 : decode cX0_giveMusts 39 = .ok (.ireturn, 1) := by decide +kernel
theorem dX0_giveMany_0 : decode cX0_giveMany 0 = .ok (.iconst 0, 1) := by decide +kernel
theorem dX0_giveMany_1 : decode cX0_giveMany 1 = .ok (.istore_n 3, 1) := by decide +kernel
theorem dX0_giveMany_2 : decode cX0_giveMany 2 = .ok (.iload_n 3, 1) := by decide +kernel
theorem dX0_giveMany_3 : decode cX0_giveMany 3 = .ok (.iload_n 2, 1) := by decide +kernel
theorem dX0_giveMany_4 : decode cX0_giveMany 4 = .ok (.if_icmp .ge 19, 3) := by decide +kernel
theorem dX0_giveMany_7 : decode cX0_giveMany 7 = .ok (.aload_n 0, 1) := by decide +kernel
theorem dX0_giveMany_8 : decode cX0_giveMany 8 = .ok (.iload_n 1, 1) := by decide +kernel
theorem dX0_giveMany_9 : decode cX0_giveMany 9 = .ok (.invokevirtual 92, 3) := by decide +kernel
theorem dX0_giveMany_12 : decode cX0_giveMany 12 = .ok (.ifCond .ne 5, 3) := by decide +kernel
theorem dX0_giveMany_15 : decode cX0_giveMany 15 = .ok (.iconst 0, 1) := by decide +kernel
theorem dX0_giveMany_16 : decode cX0_giveMany 16 = .ok (.ireturn, 1) := by decide +kernel
theorem dX0_giveMany_17 : decode cX0_giveMany 17 = .ok (.iinc 3 1, 3) := by decide +kernel
theorem dX0_giveMany_20 : decode cX0_giveMany 20 = .ok (.goto (-18), 3) := by decide +kernel
theorem dX0_giveMany_23 : decode cX0_giveMany 23 = .ok (.iconst 1, 1) := by decide +kernel
theorem dX0_giveMany_24 : decode cX0_giveMany 24 = .ok (.ireturn, 1) := by decide +kernel
theorem dX0_give_0 : decode cX0_give 0 = .ok (.aload_n 0, 1) := by decide +kernel
theorem dX0_give_1 : decode cX0_give 1 = .ok (.iconst 1, 1) := by decide +kernel
theorem dX0_give_2 : decode cX0_give 2 = .ok (.iload_n 1, 1) := by decide +kernel
theorem dX0_give_3 : decode cX0_give 3 = .ok (.ishl, 1) := by decide +kernel
theorem dX0_give_4 : decode cX0_give 4 = .ok (.putfield 75, 3) := by decide +kernel
theorem dX0_give_7 : decode cX0_give 7 = .ok (.aload_n 0, 1) := by decide +kernel
theorem dX0_give_8 : decode cX0_give 8 = .ok (.getfield 28, 3) := by decide +kernel
theorem dX0_give_11 : decode cX0_give 11 = .ok (.iconst 0, 1) := by decide +kernel
theorem dX0_give_12 : decode cX0_give 12 = .ok (.iload_n 1, 1) := by decide +kernel
theorem dX0_give_13 : decode cX0_give 13 = .ok (.i2b, 1) := by decide +kernel
theorem dX0_give_14 : decode cX0_give 14 = .ok (.bastore, 1) := by decide +kernel
theorem dX0_give_15 : decode cX0_give 15 = .ok (.aload_n 0, 1) := by decide +kernel
theorem dX0_give_16 : decode cX0_give 16 = .ok (.iconst 1, 1) := by decide +kernel
theorem dX0_give_17 : decode cX0_give 17 = .ok (.putfield 78, 3) := by decide +kernel
theorem dX0_give_20 : decode cX0_give 20 = .ok (.aload_n 0, 1) := by decide +kernel
theorem dX0_give_21 : decode cX0_give 21 = .ok (.getfield 31, 3) := by decide +kernel
theorem dX0_give_24 : decode cX0_give 24 = .ok (.iload_n 1, 1) := by decide +kernel
theorem dX0_give_25 : decode cX0_give 25 = .ok (.iconst (-1), 1) := by decide +kernel
theorem dX0_give_26 : decode cX0_give 26 = .ok (.bastore, 1) := by decide +kernel
theorem dX0_give_27 : decode cX0_give 27 = .ok (.aload_n 0, 1) := by decide +kernel
theorem dX0_give_28 : decode cX0_give 28 = .ok (.getfield 34, 3) := by decide +kernel
theorem dX0_give_31 : decode cX0_give 31 = .ok (.iload_n 1, 1) := by decide +kernel
theorem dX0_give_32 : decode cX0_give 32 = .ok (.iconst (-1), 1) := by decide +kernel
theorem dX0_give_33 : decode cX0_give 33 = .ok (.bastore, 1) := by decide +kernel
theorem dX0_give_34 : decode cX0_give 34 = .ok (.iconst 0, 1) := by decide +kernel
theorem dX0_give_35 : decode cX0_give 35 = .ok (.istore_n 2, 1) := by decide +kernel
theorem dX0_give_36 : decode cX0_give 36 = .ok (.iload_n 2, 1) := by decide +kernel
theorem dX0_give_37 : decode cX0_give 37 = .ok (.aload_n 0, 1) := by decide +kernel
theorem dX0_give_38 : decode cX0_give 38 = .ok (.getfield 78, 3) := by decide +kernel
theorem dX0_give_41 : decode cX0_give 41 = .ok (.if_icmp .ge 43, 3) := by decide +kernel
theorem dX0_give_44 : decode cX0_give 44 = .ok (.iload_n 2, 1) := by decide +kernel
theorem dX0_give_45 : decode cX0_give 45 = .ok (.bipush 6, 2) := by decide +kernel
theorem dX0_give_47 : decode cX0_give 47 = .ok (.if_icmp .ge 37, 3) := by decide +kernel
theorem dX0_give_50 : decode cX0_give 50 = .ok (.aload_n 0, 1) := by decide +kernel
theorem dX0_give_51 : decode cX0_give 51 = .ok (.aload_n 0, 1) := by decide +kernel
theorem dX0_give_52 : decode cX0_give 52 = .ok (.getfield 28, 3) := by decide +kernel
theorem dX0_give_55 : decode cX0_give 55 = .ok (.iload_n 2, 1) := by decide +kernel
theorem dX0_give_56 : decode cX0_give 56 = .ok (.baload, 1) := by decide +kernel
theorem dX0_give_57 : decode cX0_give 57 = .ok (.invokevirtual 81, 3) := by decide +kernel
theorem dX0_give_60 : decode cX0_give 60 = .ok (.istore_n 3, 1) := by decide +kernel
theorem dX0_give_61 : decode cX0_give 61 = .ok (.iload_n 3, 1) := by decide +kernel
theorem dX0_give_62 : decode cX0_give 62 = .ok (.ifCond .lt 16, 3) := by decide +kernel
theorem dX0_give_65 : decode cX0_give 65 = .ok (.aload_n 0, 1) := by decide +kernel
theorem dX0_give_66 : decode cX0_give 66 = .ok (.aload_n 0, 1) := by decide +kernel
theorem dX0_give_67 : decode cX0_give 67 = .ok (.getfield 28, 3) := by decide +kernel
theorem dX0_give_70 : decode cX0_give 70 = .ok (.iload_n 2, 1) := by decide +kernel
theorem dX0_give_71 : decode cX0_give 71 = .ok (.baload, 1) := by decide +kernel
theorem dX0_give_72 : decode cX0_give 72 = .ok (.iload_n 3, 1) := by decide +kernel
theorem dX0_give_73 : decode cX0_give 73 = .ok (.invokevirtual 85, 3) := by decide +kernel
theorem dX0_give_76 : decode cX0_give 76 = .ok (.iconst 1, 1) := by decide +kernel
theorem dX0_give_77 : decode cX0_give 77 = .ok (.ireturn, 1) := by decide +kernel
theorem dX0_give_78 : decode cX0_give 78 = .ok (.iinc 2 1, 3) := by decide +kernel
theorem dX0_give_81 : decode cX0_give 81 = .ok (.goto (-45), 3) := by decide +kernel
theorem dX0_give_84 : decode cX0_give 84 = .ok (.iconst 0, 1) := by decide +kernel
theorem dX0_give_85 : decode cX0_give 85 = .ok (.ireturn, 1) := by decide +kernel
theorem dX0_look_0 : decode cX0_look 0 = .ok (.aload_n 0, 1) := by decide +kernel
theorem dX0_look_1 : decode cX0_look 1 = .ok (.getfield 7, 3) := by decide +kernel
theorem dX0_look_4 : decode cX0_look 4 = .ok (.iload_n 1, 1) := by decide +kernel
theorem dX0_look_5 : decode cX0_look 5 = .ok (.baload, 1) := by decide +kernel
theorem dX0_look_6 : decode cX0_look 6 = .ok (.istore_n 2, 1) := by decide +kernel
theorem dX0_look_7 : decode cX0_look 7 = .ok (.iload_n 2, 1) := by decide +kernel
theorem dX0_look_8 : decode cX0_look 8 = .ok (.aload_n 0, 1) := by decide +kernel
theorem dX0_look_9 : decode cX0_look 9 = .ok (.getfield 13, 3) := by decide +kernel
theorem dX0_look_12 : decode cX0_look 12 = .ok (.iload_n 1, 1) := by decide +kernel
theorem dX0_look_13 : decode cX0_look 13 = .ok (.baload, 1) := by decide +kernel
theorem dX0_look_14 : decode cX0_look 14 = .ok (.if_icmp .ge 92, 3) := by decide +kernel
theorem dX0_look_17 : decode cX0_look 17 = .ok (.aload_n 0, 1) := by decide +kernel
theorem dX0_look_18 : decode cX0_look 18 = .ok (.iload_n 1, 1) := by decide +kernel
theorem dX0_look_19 : decode cX0_look 19 = .ok (.iload_n 2, 1) := by decide +kernel
theorem dX0_look_20 : decode cX0_look 20 = .ok (.invokevirtual 88, 3) := by decide +kernel
theorem dX0_look_23 : decode cX0_look 23 = .ok (.ifCond .eq 77, 3) := by decide +kernel
theorem dX0_look_26 : decode cX0_look 26 = .ok (.aload_n 0, 1) := by decide +kernel
theorem dX0_look_27 : decode cX0_look 27 = .ok (.getfield 25, 3) := by decide +kernel
theorem dX0_look_30 : decode cX0_look 30 = .ok (.iload_n 2, 1) := by decide +kernel
theorem dX0_look_31 : decode cX0_look 31 = .ok (.baload, 1) := by decide +kernel
theorem dX0_look_32 : decode cX0_look 32 = .ok (.istore_n 3, 1) := by decide +kernel
theorem dX0_look_33 : decode cX0_look 33 = .ok (.iload_n 3, 1) := by decide +kernel
theorem dX0_look_34 : decode cX0_look 34 = .ok (.iconst (-1), 1) := by decide +kernel
theorem dX0_look_35 : decode cX0_look 35 = .ok (.if_icmp .ne 5, 3) := by decide +kernel
theorem dX0_look_38 : decode cX0_look 38 = .ok (.iload_n 2, 1) := by decide +kernel
theorem dX0_look_39 : decode cX0_look 39 = .ok (.ireturn, 1) := by decide +kernel
theorem dX0_look_40 : decode cX0_look 40 = .ok (.aload_n 0, 1) := by decide +kernel
theorem dX0_look_41 : decode cX0_look 41 = .ok (.getfield 75, 3) := by decide +kernel
theorem dX0_look_44 : decode cX0_look 44 = .ok (.iload_n 3, 1) := by decide +kernel
theorem dX0_look_45 : decode cX0_look 45 = .ok (.ishr, 1) := by decide +kernel
theorem dX0_look_46 : decode cX0_look 46 = .ok (.iconst 1, 1) := by decide +kernel
theorem dX0_look_47 : decode cX0_look 47 = .ok (.iand, 1) := by decide +kernel
theorem dX0_look_48 : decode cX0_look 48 = .ok (.ifCond .ne 52, 3) := by decide +kernel
theorem dX0_look_51 : decode cX0_look 51 = .ok (.aload_n 0, 1) := by decide +kernel
theorem dX0_look_52 : decode cX0_look 52 = .ok (.dup, 1) := by decide +kernel
end
section
set_option maxRecDepth 100000
theorem dX0_look_53 : decode cX0_look 53 = .ok (.getfield 75, 3) := by decide +kernel
theorem dX0_look_56 : decode cX0_look 56 = .ok (.iconst 1, 1) := by decide +kernel
theorem dX0_look_57 : decode cX0_look 57 = .ok (.iload_n 3, 1) := by decide +kernel
theorem dX0_look_58 : decode cX0_look 58 = .ok (.ishl, 1) := by decide +kernel
theorem dX0_look_59 : decode cX0_look 59 = .ok (.ior, 1) := by decide +kernel
theorem dX0_look_60 : decode cX0_look 60 = .ok (.putfield 75, 3) := by decide +kernel
theorem dX0_look_63 : decode cX0_look 63 = .ok (.aload_n 0, 1) := by decide +kernel
theorem dX0_look_64 : decode cX0_look 64 = .ok (.getfield 31, 3) := by decide +kernel
theorem dX0_look_67 : decode cX0_look 67 = .ok (.iload_n 3, 1) := by decide +kernel
theorem dX0_look_68 : decode cX0_look 68 = .ok (.iload_n 2, 1) := by decide +kernel
theorem dX0_look_69 : decode cX0_look 69 = .ok (.i2b, 1) := by decide +kernel
theorem dX0_look_70 : decode cX0_look 70 = .ok (.bastore, 1) := by decide +kernel
theorem dX0_look_71 : decode cX0_look 71 = .ok (.aload_n 0, 1) := by decide +kernel
theorem dX0_look_72 : decode cX0_look 72 = .ok (.getfield 34, 3) := by decide +kernel
theorem dX0_look_75 : decode cX0_look 75 = .ok (.iload_n 3, 1) := by decide +kernel
theorem dX0_look_76 : decode cX0_look 76 = .ok (.iload_n 1, 1) := by decide +kernel
theorem dX0_look_77 : decode cX0_look 77 = .ok (.i2b, 1) := by decide +kernel
theorem dX0_look_78 : decode cX0_look 78 = .ok (.bastore, 1) := by decide +kernel
theorem dX0_look_79 : decode cX0_look 79 = .ok (.aload_n 0, 1) := by decide +kernel
theorem dX0_look_80 : decode cX0_look 80 = .ok (.getfield 28, 3) := by decide +kernel
theorem dX0_look_83 : decode cX0_look 83 = .ok (.aload_n 0, 1) := by decide +kernel
theorem dX0_look_84 : decode cX0_look 84 = .ok (.getfield 78, 3) := by decide +kernel
theorem dX0_look_87 : decode cX0_look 87 = .ok (.iload_n 3, 1) := by decide +kernel
theorem dX0_look_88 : decode cX0_look 88 = .ok (.i2b, 1) := by decide +kernel
theorem dX0_look_89 : decode cX0_look 89 = .ok (.bastore, 1) := by decide +kernel
theorem dX0_look_90 : decode cX0_look 90 = .ok (.aload_n 0, 1) := by decide +kernel
theorem dX0_look_91 : decode cX0_look 91 = .ok (.dup, 1) := by decide +kernel
theorem dX0_look_92 : decode cX0_look 92 = .ok (.getfield 78, 3) := by decide +kernel
theorem dX0_look_95 : decode cX0_look 95 = .ok (.iconst 1, 1) := by decide +kernel
theorem dX0_look_96 : decode cX0_look 96 = .ok (.iadd, 1) := by decide +kernel
theorem dX0_look_97 : decode cX0_look 97 = .ok (.putfield 78, 3) := by decide +kernel
theorem dX0_look_100 : decode cX0_look 100 = .ok (.iinc 2 1, 3) := by decide +kernel
theorem dX0_look_103 : decode cX0_look 103 = .ok (.goto (-96), 3) := by decide +kernel
theorem dX0_look_106 : decode cX0_look 106 = .ok (.iconst (-1), 1) := by decide +kernel
theorem dX0_look_107 : decode cX0_look 107 = .ok (.ireturn, 1) := by decide +kernel
theorem dX0_inWindow_0 : decode cX0_inWindow 0 = .ok (.iload_n 2, 1) := by decide +kernel
theorem dX0_inWindow_1 : decode cX0_inWindow 1 = .ok (.aload_n 0, 1) := by decide +kernel
theorem dX0_inWindow_2 : decode cX0_inWindow 2 = .ok (.getfield 7, 3) := by decide +kernel
theorem dX0_inWindow_5 : decode cX0_inWindow 5 = .ok (.iload_n 1, 1) := by decide +kernel
theorem dX0_inWindow_6 : decode cX0_inWindow 6 = .ok (.baload, 1) := by decide +kernel
theorem dX0_inWindow_7 : decode cX0_inWindow 7 = .ok (.if_icmp .lt 28, 3) := by decide +kernel
theorem dX0_inWindow_10 : decode cX0_inWindow 10 = .ok (.iload_n 2, 1) := by decide +kernel
theorem dX0_inWindow_11 : decode cX0_inWindow 11 = .ok (.aload_n 0, 1) := by decide +kernel
theorem dX0_inWindow_12 : decode cX0_inWindow 12 = .ok (.getfield 13, 3) := by decide +kernel
theorem dX0_inWindow_15 : decode cX0_inWindow 15 = .ok (.iload_n 1, 1) := by decide +kernel
theorem dX0_inWindow_16 : decode cX0_inWindow 16 = .ok (.baload, 1) := by decide +kernel
theorem dX0_inWindow_17 : decode cX0_inWindow 17 = .ok (.if_icmp .ge 18, 3) := by decide +kernel
theorem dX0_inWindow_20 : decode cX0_inWindow 20 = .ok (.aload_n 0, 1) := by decide +kernel
theorem dX0_inWindow_21 : decode cX0_inWindow 21 = .ok (.getfield 72, 3) := by decide +kernel
theorem dX0_inWindow_24 : decode cX0_inWindow 24 = .ok (.iload_n 2, 1) := by decide +kernel
theorem dX0_inWindow_25 : decode cX0_inWindow 25 = .ok (.ishr, 1) := by decide +kernel
theorem dX0_inWindow_26 : decode cX0_inWindow 26 = .ok (.iconst 1, 1) := by decide +kernel
theorem dX0_inWindow_27 : decode cX0_inWindow 27 = .ok (.iand, 1) := by decide +kernel
theorem dX0_inWindow_28 : decode cX0_inWindow 28 = .ok (.ifCond .ne 7, 3) := by decide +kernel
theorem dX0_inWindow_31 : decode cX0_inWindow 31 = .ok (.iconst 1, 1) := by decide +kernel
theorem dX0_inWindow_32 : decode cX0_inWindow 32 = .ok (.goto 4, 3) := by decide +kernel
theorem dX0_inWindow_35 : decode cX0_inWindow 35 = .ok (.iconst 0, 1) := by decide +kernel
theorem dX0_inWindow_36 : decode cX0_inWindow 36 = .ok (.ireturn, 1) := by decide +kernel
theorem dX0_shift_0 : decode cX0_shift 0 = .ok (.iload_n 1, 1) := by decide +kernel
theorem dX0_shift_1 : decode cX0_shift 1 = .ok (.istore_n 3, 1) := by decide +kernel
theorem dX0_shift_2 : decode cX0_shift 2 = .ok (.iload_n 2, 1) := by decide +kernel
theorem dX0_shift_3 : decode cX0_shift 3 = .ok (.istore 4, 2) := by decide +kernel
theorem dX0_shift_5 : decode cX0_shift 5 = .ok (.iconst 0, 1) := by decide +kernel
theorem dX0_shift_6 : decode cX0_shift 6 = .ok (.istore 5, 2) := by decide +kernel
theorem dX0_shift_8 : decode cX0_shift 8 = .ok (.iload 5, 2) := by decide +kernel
theorem dX0_shift_10 : decode cX0_shift 10 = .ok (.bipush 6, 2) := by decide +kernel
theorem dX0_shift_12 : decode cX0_shift 12 = .ok (.if_icmp .ge 37, 3) := by decide +kernel
theorem dX0_shift_15 : decode cX0_shift 15 = .ok (.iload_n 3, 1) := by decide +kernel
theorem dX0_shift_16 : decode cX0_shift 16 = .ok (.ifCond .lt 33, 3) := by decide +kernel
theorem dX0_shift_19 : decode cX0_shift 19 = .ok (.aload_n 0, 1) := by decide +kernel
theorem dX0_shift_20 : decode cX0_shift 20 = .ok (.getfield 25, 3) := by decide +kernel
theorem dX0_shift_23 : decode cX0_shift 23 = .ok (.iload 4, 2) := by decide +kernel
theorem dX0_shift_25 : decode cX0_shift 25 = .ok (.iload_n 3, 1) := by decide +kernel
theorem dX0_shift_26 : decode cX0_shift 26 = .ok (.i2b, 1) := by decide +kernel
theorem dX0_shift_27 : decode cX0_shift 27 = .ok (.bastore, 1) := by decide +kernel
theorem dX0_shift_28 : decode cX0_shift 28 = .ok (.aload_n 0, 1) := by decide +kernel
theorem dX0_shift_29 : decode cX0_shift 29 = .ok (.getfield 31, 3) := by decide +kernel
theorem dX0_shift_32 : decode cX0_shift 32 = .ok (.iload_n 3, 1) := by decide +kernel
theorem dX0_shift_33 : decode cX0_shift 33 = .ok (.baload, 1) := by decide +kernel
theorem dX0_shift_34 : decode cX0_shift 34 = .ok (.istore 4, 2) := by decide +kernel
theorem dX0_shift_36 : decode cX0_shift 36 = .ok (.aload_n 0, 1) := by decide +kernel
theorem dX0_shift_37 : decode cX0_shift 37 = .ok (.getfield 34, 3) := by decide +kernel
theorem dX0_shift_40 : decode cX0_shift 40 = .ok (.iload_n 3, 1) := by decide +kernel
theorem dX0_shift_41 : decode cX0_shift 41 = .ok (.baload, 1) := by decide +kernel
theorem dX0_shift_42 : decode cX0_shift 42 = .ok (.istore_n 3, 1) := by decide +kernel
theorem dX0_shift_43 : decode cX0_shift 43 = .ok (.iinc 5 1, 3) := by decide +kernel
theorem dX0_shift_46 : decode cX0_shift 46 = .ok (.goto (-38), 3) := by decide +kernel
theorem dX0_shift_49 : decode cX0_shift 49 = .ok (.return_, 1) := by decide +kernel
theorem dX0_take_0 : decode cX0_take 0 = .ok (.aload_n 0, 1) := by decide +kernel
theorem dX0_take_1 : decode cX0_take 1 = .ok (.iload_n 1, 1) := by decide +kernel
theorem dX0_take_2 : decode cX0_take 2 = .ok (.invokevirtual 58, 3) := by decide +kernel
theorem dX0_take_5 : decode cX0_take 5 = .ok (.ifCond .ne 5, 3) := by decide +kernel
theorem dX0_take_8 : decode cX0_take 8 = .ok (.iconst 0, 1) := by decide +kernel
theorem dX0_take_9 : decode cX0_take 9 = .ok (.ireturn, 1) := by decide +kernel
theorem dX0_take_10 : decode cX0_take 10 = .ok (.aload_n 0, 1) := by decide +kernel
theorem dX0_take_11 : decode cX0_take 11 = .ok (.dup, 1) := by decide +kernel
theorem dX0_take_12 : decode cX0_take 12 = .ok (.getfield 46, 3) := by decide +kernel
theorem dX0_take_15 : decode cX0_take 15 = .ok (.iconst 1, 1) := by decide +kernel
theorem dX0_take_16 : decode cX0_take 16 = .ok (.iload_n 1, 1) := by decide +kernel
theorem dX0_take_17 : decode cX0_take 17 = .ok (.ishl, 1) := by decide +kernel
theorem dX0_take_18 : decode cX0_take 18 = .ok (.iconst (-1), 1) := by decide +kernel
theorem dX0_take_19 : decode cX0_take 19 = .ok (.ixor, 1) := by decide +kernel
theorem dX0_take_20 : decode cX0_take 20 = .ok (.iand, 1) := by decide +kernel
theorem dX0_take_21 : decode cX0_take 21 = .ok (.putfield 46, 3) := by decide +kernel
theorem dX0_take_24 : decode cX0_take 24 = .ok (.aload_n 0, 1) := by decide +kernel
theorem dX0_take_25 : decode cX0_take 25 = .ok (.iconst 0, 1) := by decide +kernel
theorem dX0_take_26 : decode cX0_take 26 = .ok (.putfield 50, 3) := by decide +kernel
theorem dX0_take_29 : decode cX0_take 29 = .ok (.iconst 1, 1) := by decide +kernel
theorem dX0_take_30 : decode cX0_take 30 = .ok (.ireturn, 1) := by decide +kernel
theorem dX0_block_0 : decode cX0_block 0 = .ok (.iload_n 1, 1) := by decide +kernel
theorem dX0_block_1 : decode cX0_block 1 = .ok (.ifCond .lt 9, 3) := by decide +kernel
theorem dX0_block_4 : decode cX0_block 4 = .ok (.iload_n 1, 1) := by decide +kernel
theorem dX0_block_5 : decode cX0_block 5 = .ok (.bipush 24, 2) := by decide +kernel
theorem dX0_block_7 : decode cX0_block 7 = .ok (.if_icmp .lt 5, 3) := by decide +kernel
theorem dX0_block_10 : decode cX0_block 10 = .ok (.iconst (-1), 1) := by decide +kernel
theorem dX0_block_11 : decode cX0_block 11 = .ok (.ireturn, 1) := by decide +kernel
theorem dX0_block_12 : decode cX0_block 12 = .ok (.aload_n 0, 1) := by decide +kernel
theorem dX0_block_13 : decode cX0_block 13 = .ok (.getfield 69, 3) := by decide +kernel
theorem dX0_block_16 : decode cX0_block 16 = .ok (.istore_n 3, 1) := by decide +kernel
theorem dX0_block_17 : decode cX0_block 17 = .ok (.aload_n 0, 1) := by decide +kernel
theorem dX0_block_18 : decode cX0_block 18 = .ok (.iload_n 2, 1) := by decide +kernel
theorem dX0_block_19 : decode cX0_block 19 = .ok (.ifCond .eq 14, 3) := by decide +kernel
theorem dX0_block_22 : decode cX0_block 22 = .ok (.aload_n 0, 1) := by decide +kernel
theorem dX0_block_23 : decode cX0_block 23 = .ok (.getfield 69, 3) := by decide +kernel
theorem dX0_block_26 : decode cX0_block 26 = .ok (.iconst 1, 1) := by decide +kernel
theorem dX0_block_27 : decode cX0_block 27 = .ok (.iload_n 1, 1) := by decide +kernel
theorem dX0_block_28 : decode cX0_block 28 = .ok (.ishl, 1) := by decide +kernel
theorem dX0_block_29 : decode cX0_block 29 = .ok (.ior, 1) := by decide +kernel
theorem dX0_block_30 : decode cX0_block 30 = .ok (.goto 13, 3) := by decide +kernel
theorem dX0_block_33 : decode cX0_block 33 = .ok (.aload_n 0, 1) := by decide +kernel
theorem dX0_block_34 : decode cX0_block 34 = .ok (.getfield 69, 3) := by decide +kernel
theorem dX0_block_37 : decode cX0_block 37 = .ok (.iconst 1, 1) := by decide +kernel
theorem dX0_block_38 : decode cX0_block 38 = .ok (.iload_n 1, 1) := by decide +kernel
theorem dX0_block_39 : decode cX0_block 39 = .ok (.ishl, 1) := by decide +kernel
theorem dX0_block_40 : decode cX0_block 40 = .ok (.iconst (-1), 1) := by decide +kernel
theorem dX0_block_41 : decode cX0_block 41 = .ok (.ixor, 1) := by decide +kernel
theorem dX0_block_42 : decode cX0_block 42 = .ok (.iand, 1) := by decide +kernel
theorem dX0_block_43 : decode cX0_block 43 = .ok (.putfield 69, 3) := by decide +kernel
theorem dX0_block_46 : decode cX0_block 46 = .ok (.aload_n 0, 1) := by decide +kernel
theorem dX0_block_47 : decode cX0_block 47 = .ok (.invokevirtual 65, 3) := by decide +kernel
theorem dX0_block_50 : decode cX0_block 50 = .ok (.ifCond .ne 11, 3) := by decide +kernel
theorem dX0_block_53 : decode cX0_block 53 = .ok (.aload_n 0, 1) := by decide +kernel
theorem dX0_block_54 : decode cX0_block 54 = .ok (.iload_n 3, 1) := by decide +kernel
theorem dX0_block_55 : decode cX0_block 55 = .ok (.putfield 69, 3) := by decide +kernel
theorem dX0_block_58 : decode cX0_block 58 = .ok (.bipush (-3), 2) := by decide +kernel
theorem dX0_block_60 : decode cX0_block 60 = .ok (.ireturn, 1) := by decide +kernel
theorem dX0_block_61 : decode cX0_block 61 = .ok (.aload_n 0, 1) := by decide +kernel
theorem dX0_block_62 : decode cX0_block 62 = .ok (.iconst 0, 1) := by decide +kernel
theorem dX0_block_63 : decode cX0_block 63 = .ok (.putfield 50, 3) := by decide +kernel
theorem dX0_block_66 : decode cX0_block 66 = .ok (.iload_n 1, 1) := by decide +kernel
theorem dX0_block_67 : decode cX0_block 67 = .ok (.ireturn, 1) := by decide +kernel
theorem dX0_change_0 : decode cX0_change 0 = .ok (.aload_n 0, 1) := by decide +kernel
theorem dX0_change_1 : decode cX0_change 1 = .ok (.iload_n 1, 1) := by decide +kernel
theorem dX0_change_2 : decode cX0_change 2 = .ok (.invokevirtual 58, 3) := by decide +kernel
theorem dX0_change_5 : decode cX0_change 5 = .ok (.ifCond .eq 10, 3) := by decide +kernel
theorem dX0_change_8 : decode cX0_change 8 = .ok (.iload_n 2, 1) := by decide +kernel
theorem dX0_change_9 : decode cX0_change 9 = .ok (.invokestatic 54, 3) := by decide +kernel
theorem dX0_change_12 : decode cX0_change 12 = .ok (.ifCond .ne 5, 3) := by decide +kernel
theorem dX0_change_15 : decode cX0_change 15 = .ok (.iconst (-1), 1) := by decide +kernel
theorem dX0_change_16 : decode cX0_change 16 = .ok (.ireturn, 1) := by decide +kernel
theorem dX0_change_17 : decode cX0_change 17 = .ok (.aload_n 0, 1) := by decide +kernel
theorem dX0_change_18 : decode cX0_change 18 = .ok (.getfield 16, 3) := by decide +kernel
theorem dX0_change_21 : decode cX0_change 21 = .ok (.iload_n 1, 1) := by decide +kernel
theorem dX0_change_22 : decode cX0_change 22 = .ok (.baload, 1) := by decide +kernel
theorem dX0_change_23 : decode cX0_change 23 = .ok (.bipush 8, 2) := by decide +kernel
theorem dX0_change_25 : decode cX0_change 25 = .ok (.aload_n 0, 1) := by decide +kernel
theorem dX0_change_26 : decode cX0_change 26 = .ok (.getfield 19, 3) := by decide +kernel
theorem dX0_change_29 : decode cX0_change 29 = .ok (.iload_n 1, 1) := by decide +kernel
theorem dX0_change_30 : decode cX0_change 30 = .ok (.baload, 1) := by decide +kernel
theorem dX0_change_31 : decode cX0_change 31 = .ok (.imul, 1) := by decide +kernel
theorem dX0_change_32 : decode cX0_change 32 = .ok (.iadd, 1) := by decide +kernel
theorem dX0_change_33 : decode cX0_change 33 = .ok (.bipush 64, 2) := by decide +kernel
theorem dX0_change_35 : decode cX0_change 35 = .ok (.aload_n 0, 1) := by decide +kernel
theorem dX0_change_36 : decode cX0_change 36 = .ok (.getfield 22, 3) := by decide +kernel
theorem dX0_change_39 : decode cX0_change 39 = .ok (.iload_n 1, 1) := by decide +kernel
theorem dX0_change_40 : decode cX0_change 40 = .ok (.baload, 1) := by decide +kernel
theorem dX0_change_41 : decode cX0_change 41 = .ok (.imul, 1) := by decide +kernel
theorem dX0_change_42 : decode cX0_change 42 = .ok (.iadd, 1) := by decide +kernel
theorem dX0_change_43 : decode cX0_change 43 = .ok (.istore_n 3, 1) := by decide +kernel
theorem dX0_change_44 : decode cX0_change 44 = .ok (.aload_n 0, 1) := by decide +kernel
theorem dX0_change_45 : decode cX0_change 45 = .ok (.iload_n 1, 1) := by decide +kernel
theorem dX0_change_46 : decode cX0_change 46 = .ok (.iload_n 2, 1) := by decide +kernel
theorem dX0_change_47 : decode cX0_change 47 = .ok (.invokevirtual 61, 3) := by decide +kernel
theorem dX0_change_50 : decode cX0_change 50 = .ok (.aload_n 0, 1) := by decide +kernel
theorem dX0_change_51 : decode cX0_change 51 = .ok (.invokevirtual 65, 3) := by decide +kernel
theorem dX0_change_54 : decode cX0_change 54 = .ok (.ifCond .eq 5, 3) := by decide +kernel
theorem dX0_change_57 : decode cX0_change 57 = .ok (.iload_n 1, 1) := by decide +kernel
theorem dX0_change_58 : decode cX0_change 58 = .ok (.ireturn, 1) := by decide +kernel
theorem dX0_change_59 : decode cX0_change 59 = .ok (.aload_n 0, 1) := by decide +kernel
theorem dX0_change_60 : decode cX0_change 60 = .ok (.iload_n 1, 1) := by decide +kernel
theorem dX0_change_61 : decode cX0_change 61 = .ok (.iload_n 3, 1) := by decide +kernel
theorem dX0_change_62 : decode cX0_change 62 = .ok (.invokevirtual 61, 3) := by decide +kernel
theorem dX0_change_65 : decode cX0_change 65 = .ok (.bipush (-3), 2) := by decide +kernel
theorem dX0_change_67 : decode cX0_change 67 = .ok (.ireturn, 1) := by decide +kernel
theorem dX0_tasks_0 : decode cX0_tasks 0 = .ok (.aload_n 0, 1) := by decide +kernel
theorem dX0_tasks_1 : decode cX0_tasks 1 = .ok (.getfield 46, 3) := by decide +kernel
theorem dX0_tasks_4 : decode cX0_tasks 4 = .ok (.ireturn, 1) := by decide +kernel
theorem dX0_blocked_0 : decode cX0_blocked 0 = .ok (.aload_n 0, 1) := by decide +kernel
theorem dX0_blocked_1 : decode cX0_blocked 1 = .ok (.getfield 69, 3) := by decide +kernel
theorem dX0_blocked_4 : decode cX0_blocked 4 = .ok (.ireturn, 1) := by decide +kernel
theorem dX0_loss_0 : decode cX0_loss 0 = .ok (.aload_n 0, 1) := by decide +kernel
theorem dX0_loss_1 : decode cX0_loss 1 = .ok (.invokevirtual 120, 3) := by decide +kernel
theorem dX0_loss_4 : decode cX0_loss 4 = .ok (.aload_n 0, 1) := by decide +kernel
theorem dX0_loss_5 : decode cX0_loss 5 = .ok (.getfield 111, 3) := by decide +kernel
theorem dX0_loss_8 : decode cX0_loss 8 = .ok (.ireturn, 1) := by decide +kernel
theorem dX0_learn_0 : decode cX0_learn 0 = .ok (.aload_n 0, 1) := by decide +kernel
theorem dX0_learn_1 : decode cX0_learn 1 = .ok (.getfield 50, 3) := by decide +kernel
theorem dX0_learn_4 : decode cX0_learn 4 = .ok (.ifCond .eq 4, 3) := by decide +kernel
theorem dX0_learn_7 : decode cX0_learn 7 = .ok (.return_, 1) := by decide +kernel
theorem dX0_learn_8 : decode cX0_learn 8 = .ok (.aload_n 0, 1) := by decide +kernel
theorem dX0_learn_9 : decode cX0_learn 9 = .ok (.aload_n 0, 1) := by decide +kernel
theorem dX0_learn_10 : decode cX0_learn 10 = .ok (.aload_n 0, 1) := by decide +kernel
theorem dX0_learn_11 : decode cX0_learn 11 = .ok (.getfield 69, 3) := by decide +kernel
theorem dX0_learn_14 : decode cX0_learn 14 = .ok (.invokevirtual 108, 3) := by decide +kernel
theorem dX0_learn_17 : decode cX0_learn 17 = .ok (.putfield 111, 3) := by decide +kernel
theorem dX0_learn_20 : decode cX0_learn 20 = .ok (.iconst 0, 1) := by decide +kernel
theorem dX0_learn_21 : decode cX0_learn 21 = .ok (.istore_n 1, 1) := by decide +kernel
theorem dX0_learn_22 : decode cX0_learn 22 = .ok (.iload_n 1, 1) := by decide +kernel
theorem dX0_learn_23 : decode cX0_learn 23 = .ok (.bipush 6, 2) := by decide +kernel
theorem dX0_learn_25 : decode cX0_learn 25 = .ok (.if_icmp .ge 41, 3) := by decide +kernel
theorem dX0_learn_28 : decode cX0_learn 28 = .ok (.aload_n 0, 1) := by decide +kernel
theorem dX0_learn_29 : decode cX0_learn 29 = .ok (.getfield 43, 3) := by decide +kernel
theorem dX0_learn_32 : decode cX0_learn 32 = .ok (.iload_n 1, 1) := by decide +kernel
theorem dX0_learn_33 : decode cX0_learn 33 = .ok (.aload_n 0, 1) := by decide +kernel
theorem dX0_learn_34 : decode cX0_learn 34 = .ok (.iload_n 1, 1) := by decide +kernel
theorem dX0_learn_35 : decode cX0_learn 35 = .ok (.invokevirtual 58, 3) := by decide +kernel
theorem dX0_learn_38 : decode cX0_learn 38 = .ok (.ifCond .eq 19, 3) := by decide +kernel
theorem dX0_learn_41 : decode cX0_learn 41 = .ok (.aload_n 0, 1) := by decide +kernel
theorem dX0_learn_42 : decode cX0_learn 42 = .ok (.getfield 16, 3) := by decide +kernel
theorem dX0_learn_45 : decode cX0_learn 45 = .ok (.iload_n 1, 1) := by decide +kernel
theorem dX0_learn_46 : decode cX0_learn 46 = .ok (.baload, 1) := by decide +kernel
theorem dX0_learn_47 : decode cX0_learn 47 = .ok (.aload_n 0, 1) := by decide +kernel
theorem dX0_learn_48 : decode cX0_learn 48 = .ok (.getfield 37, 3) := by decide +kernel
theorem dX0_learn_51 : decode cX0_learn 51 = .ok (.iload_n 1, 1) := by decide +kernel
theorem dX0_learn_52 : decode cX0_learn 52 = .ok (.baload, 1) := by decide +kernel
theorem dX0_learn_53 : decode cX0_learn 53 = .ok (.iadd, 1) := by decide +kernel
theorem dX0_learn_54 : decode cX0_learn 54 = .ok (.goto 4, 3) := by decide +kernel
theorem dX0_learn_57 : decode cX0_learn 57 = .ok (.iconst 0, 1) := by decide +kernel
theorem dX0_learn_58 : decode cX0_learn 58 = .ok (.i2b, 1) := by decide +kernel
theorem dX0_learn_59 : decode cX0_learn 59 = .ok (.bastore, 1) := by decide +kernel
theorem dX0_learn_60 : decode cX0_learn 60 = .ok (.iinc 1 1, 3) := by decide +kernel
theorem dX0_learn_63 : decode cX0_learn 63 = .ok (.goto (-41), 3) := by decide +kernel
theorem dX0_learn_66 : decode cX0_learn 66 = .ok (.iconst 0, 1) := by decide +kernel
theorem dX0_learn_67 : decode cX0_learn 67 = .ok (.istore_n 1, 1) := by decide +kernel
theorem dX0_learn_68 : decode cX0_learn 68 = .ok (.iload_n 1, 1) := by decide +kernel
theorem dX0_learn_69 : decode cX0_learn 69 = .ok (.bipush 24, 2) := by decide +kernel
theorem dX0_learn_71 : decode cX0_learn 71 = .ok (.if_icmp .ge 46, 3) := by decide +kernel
theorem dX0_learn_74 : decode cX0_learn 74 = .ok (.aload_n 0, 1) := by decide +kernel
theorem dX0_learn_75 : decode cX0_learn 75 = .ok (.getfield 40, 3) := by decide +kernel
theorem dX0_learn_78 : decode cX0_learn 78 = .ok (.iload_n 1, 1) := by decide +kernel
theorem dX0_learn_79 : decode cX0_learn 79 = .ok (.aload_n 0, 1) := by decide +kernel
theorem dX0_learn_80 : decode cX0_learn 80 = .ok (.iload_n 1, 1) := by decide +kernel
theorem dX0_learn_81 : decode cX0_learn 81 = .ok (.invokevirtual 114, 3) := by decide +kernel
theorem dX0_learn_84 : decode cX0_learn 84 = .ok (.i2b, 1) := by decide +kernel
theorem dX0_learn_85 : decode cX0_learn 85 = .ok (.bastore, 1) := by decide +kernel
theorem dX0_learn_86 : decode cX0_learn 86 = .ok (.aload_n 0, 1) := by decide +kernel
theorem dX0_learn_87 : decode cX0_learn 87 = .ok (.getfield 40, 3) := by decide +kernel
theorem dX0_learn_90 : decode cX0_learn 90 = .ok (.iload_n 1, 1) := by decide +kernel
theorem dX0_learn_91 : decode cX0_learn 91 = .ok (.baload, 1) := by decide +kernel
theorem dX0_learn_92 : decode cX0_learn 92 = .ok (.ifCond .lt 19, 3) := by decide +kernel
theorem dX0_learn_95 : decode cX0_learn 95 = .ok (.aload_n 0, 1) := by decide +kernel
theorem dX0_learn_96 : decode cX0_learn 96 = .ok (.getfield 43, 3) := by decide +kernel
theorem dX0_learn_99 : decode cX0_learn 99 = .ok (.aload_n 0, 1) := by decide +kernel
theorem dX0_learn_100 : decode cX0_learn 100 = .ok (.getfield 40, 3) := by decide +kernel
theorem dX0_learn_103 : decode cX0_learn 103 = .ok (.iload_n 1, 1) := by decide +kernel
theorem dX0_learn_104 : decode cX0_learn 104 = .ok (.baload, 1) := by decide +kernel
theorem dX0_learn_105 : decode cX0_learn 105 = .ok (.dup2, 1) := by decide +kernel
theorem dX0_learn_106 : decode cX0_learn 106 = .ok (.baload, 1) := by decide +kernel
theorem dX0_learn_107 : decode cX0_learn 107 = .ok (.iconst 1, 1) := by decide +kernel
theorem dX0_learn_108 : decode cX0_learn 108 = .ok (.isub, 1) := by decide +kernel
theorem dX0_learn_109 : decode cX0_learn 109 = .ok (.i2b, 1) := by decide +kernel
theorem dX0_learn_110 : decode cX0_learn 110 = .ok (.bastore, 1) := by decide +kernel
theorem dX0_learn_111 : decode cX0_learn 111 = .ok (.iinc 1 1, 3) := by decide +kernel
theorem dX0_learn_114 : decode cX0_learn 114 = .ok (.goto (-46), 3) := by decide +kernel
theorem dX0_learn_117 : decode cX0_learn 117 = .ok (.aload_n 0, 1) := by decide +kernel
theorem dX0_learn_118 : decode cX0_learn 118 = .ok (.iconst 1, 1) := by decide +kernel
theorem dX0_learn_119 : decode cX0_learn 119 = .ok (.putfield 50, 3) := by decide +kernel
theorem dX0_learn_122 : decode cX0_learn 122 = .ok (.return_, 1) := by decide +kernel
theorem dX0_leastLossWith_0 : decode cX0_leastLossWith 0 = .ok (.aload_n 0, 1) := by decide +kernel
theorem dX0_leastLossWith_1 : decode cX0_leastLossWith 1 = .ok (.iload_n 1, 1) := by decide +kernel
theorem dX0_leastLossWith_2 : decode cX0_leastLossWith 2 = .ok (.invokevirtual 98, 3) := by decide +kernel
theorem dX0_leastLossWith_5 : decode cX0_leastLossWith 5 = .ok (.aload_n 0, 1) := by decide +kernel
theorem dX0_leastLossWith_6 : decode cX0_leastLossWith 6 = .ok (.invokevirtual 102, 3) := by decide +kernel
theorem dX0_leastLossWith_9 : decode cX0_leastLossWith 9 = .ok (.ifCond .ne 5, 3) := by decide +kernel
theorem dX0_leastLossWith_12 : decode cX0_leastLossWith 12 = .ok (.iconst (-1), 1) := by decide +kernel
theorem dX0_leastLossWith_13 : decode cX0_leastLossWith 13 = .ok (.ireturn, 1) := by decide +kernel
theorem dX0_leastLossWith_14 : decode cX0_leastLossWith 14 = .ok (.iconst 0, 1) := by decide +kernel
theorem dX0_leastLossWith_15 : decode cX0_leastLossWith 15 = .ok (.istore_n 2, 1) := by decide +kernel
theorem dX0_leastLossWith_16 : decode cX0_leastLossWith 16 = .ok (.iconst 0, 1) := by decide +kernel
theorem dX0_leastLossWith_17 : decode cX0_leastLossWith 17 = .ok (.istore_n 3, 1) := by decide +kernel
theorem dX0_leastLossWith_18 : decode cX0_leastLossWith 18 = .ok (.iconst 0, 1) := by decide +kernel
theorem dX0_leastLossWith_19 : decode cX0_leastLossWith 19 = .ok (.istore 4, 2) := by decide +kernel
theorem dX0_leastLossWith_21 : decode cX0_leastLossWith 21 = .ok (.iload 4, 2) := by decide +kernel
theorem dX0_leastLossWith_23 : decode cX0_leastLossWith 23 = .ok (.bipush 6, 2) := by decide +kernel
theorem dX0_leastLossWith_25 : decode cX0_leastLossWith 25 = .ok (.if_icmp .ge 89, 3) := by decide +kernel
theorem dX0_leastLossWith_28 : decode cX0_leastLossWith 28 = .ok (.aload_n 0, 1) := by decide +kernel
theorem dX0_leastLossWith_29 : decode cX0_leastLossWith 29 = .ok (.iload_n 3, 1) := by decide +kernel
theorem dX0_leastLossWith_30 : decode cX0_leastLossWith 30 = .ok (.invokevirtual 105, 3) := by decide +kernel
theorem dX0_leastLossWith_33 : decode cX0_leastLossWith 33 = .ok (.istore 5, 2) := by decide +kernel
theorem dX0_leastLossWith_35 : decode cX0_leastLossWith 35 = .ok (.iload 5, 2) := by decide +kernel
theorem dX0_leastLossWith_37 : decode cX0_leastLossWith 37 = .ok (.ifCond .lt 71, 3) := by decide +kernel
theorem dX0_leastLossWith_40 : decode cX0_leastLossWith 40 = .ok (.iload_n 3, 1) := by decide +kernel
theorem dX0_leastLossWith_41 : decode cX0_leastLossWith 41 = .ok (.iconst 1, 1) := by decide +kernel
theorem dX0_leastLossWith_42 : decode cX0_leastLossWith 42 = .ok (.iload 5, 2) := by decide +kernel
theorem dX0_leastLossWith_44 : decode cX0_leastLossWith 44 = .ok (.ishl, 1) := by decide +kernel
theorem dX0_leastLossWith_45 : decode cX0_leastLossWith 45 = .ok (.ior, 1) := by decide +kernel
theorem dX0_leastLossWith_46 : decode cX0_leastLossWith 46 = .ok (.istore_n 3, 1) := by decide +kernel
theorem dX0_leastLossWith_47 : decode cX0_leastLossWith 47 = .ok (.iconst 0, 1) := by decide +kernel
theorem dX0_leastLossWith_48 : decode cX0_leastLossWith 48 = .ok (.istore 6, 2) := by decide +kernel
theorem dX0_leastLossWith_50 : decode cX0_leastLossWith 50 = .ok (.iload 6, 2) := by decide +kernel
theorem dX0_leastLossWith_52 : decode cX0_leastLossWith 52 = .ok (.aload_n 0, 1) := by decide +kernel
theorem dX0_leastLossWith_53 : decode cX0_leastLossWith 53 = .ok (.getfield 19, 3) := by decide +kernel
theorem dX0_leastLossWith_56 : decode cX0_leastLossWith 56 = .ok (.iload 5, 2) := by decide +kernel
theorem dX0_leastLossWith_58 : decode cX0_leastLossWith 58 = .ok (.baload, 1) := by decide +kernel
theorem dX0_leastLossWith_59 : decode cX0_leastLossWith 59 = .ok (.if_icmp .ge 18, 3) := by decide +kernel
theorem dX0_leastLossWith_62 : decode cX0_leastLossWith 62 = .ok (.aload_n 0, 1) := by decide +kernel
theorem dX0_leastLossWith_63 : decode cX0_leastLossWith 63 = .ok (.iload 5, 2) := by decide +kernel
theorem dX0_leastLossWith_65 : decode cX0_leastLossWith 65 = .ok (.invokevirtual 92, 3) := by decide +kernel
theorem dX0_leastLossWith_68 : decode cX0_leastLossWith 68 = .ok (.ifCond .eq 9, 3) := by decide +kernel
theorem dX0_leastLossWith_71 : decode cX0_leastLossWith 71 = .ok (.iinc 6 1, 3) := by decide +kernel
theorem dX0_leastLossWith_74 : decode cX0_leastLossWith 74 = .ok (.goto (-24), 3) := by decide +kernel
theorem dX0_leastLossWith_77 : decode cX0_leastLossWith 77 = .ok (.aload_n 0, 1) := by decide +kernel
theorem dX0_leastLossWith_78 : decode cX0_leastLossWith 78 = .ok (.getfield 37, 3) := by decide +kernel
theorem dX0_leastLossWith_81 : decode cX0_leastLossWith 81 = .ok (.iload 5, 2) := by decide +kernel
theorem dX0_leastLossWith_83 : decode cX0_leastLossWith 83 = .ok (.iload 6, 2) := by decide +kernel
theorem dX0_leastLossWith_85 : decode cX0_leastLossWith 85 = .ok (.i2b, 1) := by decide +kernel
theorem dX0_leastLossWith_86 : decode cX0_leastLossWith 86 = .ok (.bastore, 1) := by decide +kernel
theorem dX0_leastLossWith_87 : decode cX0_leastLossWith 87 = .ok (.iload_n 2, 1) := by decide +kernel
theorem dX0_leastLossWith_88 : decode cX0_leastLossWith 88 = .ok (.aload_n 0, 1) := by decide +kernel
theorem dX0_leastLossWith_89 : decode cX0_leastLossWith 89 = .ok (.getfield 22, 3) := by decide +kernel
theorem dX0_leastLossWith_92 : decode cX0_leastLossWith 92 = .ok (.iload 5, 2) := by decide +kernel
theorem dX0_leastLossWith_94 : decode cX0_leastLossWith 94 = .ok (.baload, 1) := by decide +kernel
theorem dX0_leastLossWith_95 : decode cX0_leastLossWith 95 = .ok (.aload_n 0, 1) := by decide +kernel
theorem dX0_leastLossWith_96 : decode cX0_leastLossWith 96 = .ok (.getfield 19, 3) := by decide +kernel
theorem dX0_leastLossWith_99 : decode cX0_leastLossWith 99 = .ok (.iload 5, 2) := by decide +kernel
theorem dX0_leastLossWith_101 : decode cX0_leastLossWith 101 = .ok (.baload, 1) := by decide +kernel
theorem dX0_leastLossWith_102 : decode cX0_leastLossWith 102 = .ok (.iload 6, 2) := by decide +kernel
theorem dX0_leastLossWith_104 : decode cX0_leastLossWith 104 = .ok (.isub, 1) := by decide +kernel
theorem dX0_leastLossWith_105 : decode cX0_leastLossWith 105 = .ok (.imul, 1) := by decide +kernel
theorem dX0_leastLossWith_106 : decode cX0_leastLossWith 106 = .ok (.iadd, 1) := by decide +kernel
theorem dX0_leastLossWith_107 : decode cX0_leastLossWith 107 = .ok (.istore_n 2, 1) := by decide +kernel
end
section
set_option maxRecDepth 100000
theorem dX0_leastLossWith_108 : decode cX0_leastLossWith 108 = .ok (.iinc 4 1, 3) := by decide +kernel
theorem dX0_leastLossWith_111 : decode cX0_leastLossWith 111 = .ok (.goto (-90), 3) := by decide +kernel
theorem dX0_leastLossWith_114 : decode cX0_leastLossWith 114 = .ok (.iload_n 2, 1) := by decide +kernel
theorem dX0_leastLossWith_115 : decode cX0_leastLossWith 115 = .ok (.ireturn, 1) := by decide +kernel
theorem dX0_nextInOrder_0 : decode cX0_nextInOrder 0 = .ok (.iconst (-1), 1) := by decide +kernel
theorem dX0_nextInOrder_1 : decode cX0_nextInOrder 1 = .ok (.istore_n 2, 1) := by decide +kernel
theorem dX0_nextInOrder_2 : decode cX0_nextInOrder 2 = .ok (.iconst 0, 1) := by decide +kernel
theorem dX0_nextInOrder_3 : decode cX0_nextInOrder 3 = .ok (.istore_n 3, 1) := by decide +kernel
theorem dX0_nextInOrder_4 : decode cX0_nextInOrder 4 = .ok (.iload_n 3, 1) := by decide +kernel
theorem dX0_nextInOrder_5 : decode cX0_nextInOrder 5 = .ok (.bipush 6, 2) := by decide +kernel
theorem dX0_nextInOrder_7 : decode cX0_nextInOrder 7 = .ok (.if_icmp .ge 46, 3) := by decide +kernel
theorem dX0_nextInOrder_10 : decode cX0_nextInOrder 10 = .ok (.aload_n 0, 1) := by decide +kernel
theorem dX0_nextInOrder_11 : decode cX0_nextInOrder 11 = .ok (.iload_n 3, 1) := by decide +kernel
theorem dX0_nextInOrder_12 : decode cX0_nextInOrder 12 = .ok (.invokevirtual 58, 3) := by decide +kernel
theorem dX0_nextInOrder_15 : decode cX0_nextInOrder 15 = .ok (.ifCond .eq 32, 3) := by decide +kernel
theorem dX0_nextInOrder_18 : decode cX0_nextInOrder 18 = .ok (.iload_n 1, 1) := by decide +kernel
theorem dX0_nextInOrder_19 : decode cX0_nextInOrder 19 = .ok (.iload_n 3, 1) := by decide +kernel
theorem dX0_nextInOrder_20 : decode cX0_nextInOrder 20 = .ok (.ishr, 1) := by decide +kernel
theorem dX0_nextInOrder_21 : decode cX0_nextInOrder 21 = .ok (.iconst 1, 1) := by decide +kernel
theorem dX0_nextInOrder_22 : decode cX0_nextInOrder 22 = .ok (.iand, 1) := by decide +kernel
theorem dX0_nextInOrder_23 : decode cX0_nextInOrder 23 = .ok (.ifCond .ne 24, 3) := by decide +kernel
theorem dX0_nextInOrder_26 : decode cX0_nextInOrder 26 = .ok (.iload_n 2, 1) := by decide +kernel
theorem dX0_nextInOrder_27 : decode cX0_nextInOrder 27 = .ok (.ifCond .lt 18, 3) := by decide +kernel
theorem dX0_nextInOrder_30 : decode cX0_nextInOrder 30 = .ok (.aload_n 0, 1) := by decide +kernel
theorem dX0_nextInOrder_31 : decode cX0_nextInOrder 31 = .ok (.getfield 22, 3) := by decide +kernel
theorem dX0_nextInOrder_34 : decode cX0_nextInOrder 34 = .ok (.iload_n 3, 1) := by decide +kernel
theorem dX0_nextInOrder_35 : decode cX0_nextInOrder 35 = .ok (.baload, 1) := by decide +kernel
theorem dX0_nextInOrder_36 : decode cX0_nextInOrder 36 = .ok (.aload_n 0, 1) := by decide +kernel
theorem dX0_nextInOrder_37 : decode cX0_nextInOrder 37 = .ok (.getfield 22, 3) := by decide +kernel
theorem dX0_nextInOrder_40 : decode cX0_nextInOrder 40 = .ok (.iload_n 2, 1) := by decide +kernel
theorem dX0_nextInOrder_41 : decode cX0_nextInOrder 41 = .ok (.baload, 1) := by decide +kernel
theorem dX0_nextInOrder_42 : decode cX0_nextInOrder 42 = .ok (.if_icmp .le 5, 3) := by decide +kernel
theorem dX0_nextInOrder_45 : decode cX0_nextInOrder 45 = .ok (.iload_n 3, 1) := by decide +kernel
theorem dX0_nextInOrder_46 : decode cX0_nextInOrder 46 = .ok (.istore_n 2, 1) := by decide +kernel
theorem dX0_nextInOrder_47 : decode cX0_nextInOrder 47 = .ok (.iinc 3 1, 3) := by decide +kernel
theorem dX0_nextInOrder_50 : decode cX0_nextInOrder 50 = .ok (.goto (-46), 3) := by decide +kernel
theorem dX0_nextInOrder_53 : decode cX0_nextInOrder 53 = .ok (.iload_n 2, 1) := by decide +kernel
theorem dX0_nextInOrder_54 : decode cX0_nextInOrder 54 = .ok (.ireturn, 1) := by decide +kernel
theorem dX0_firstOwner_0 : decode cX0_firstOwner 0 = .ok (.iconst 0, 1) := by decide +kernel
theorem dX0_firstOwner_1 : decode cX0_firstOwner 1 = .ok (.istore_n 2, 1) := by decide +kernel
theorem dX0_firstOwner_2 : decode cX0_firstOwner 2 = .ok (.iload_n 2, 1) := by decide +kernel
theorem dX0_firstOwner_3 : decode cX0_firstOwner 3 = .ok (.bipush 6, 2) := by decide +kernel
theorem dX0_firstOwner_5 : decode cX0_firstOwner 5 = .ok (.if_icmp .ge 71, 3) := by decide +kernel
theorem dX0_firstOwner_8 : decode cX0_firstOwner 8 = .ok (.aload_n 0, 1) := by decide +kernel
theorem dX0_firstOwner_9 : decode cX0_firstOwner 9 = .ok (.aload_n 0, 1) := by decide +kernel
theorem dX0_firstOwner_10 : decode cX0_firstOwner 10 = .ok (.getfield 69, 3) := by decide +kernel
theorem dX0_firstOwner_13 : decode cX0_firstOwner 13 = .ok (.invokevirtual 98, 3) := by decide +kernel
theorem dX0_firstOwner_16 : decode cX0_firstOwner 16 = .ok (.aload_n 0, 1) := by decide +kernel
theorem dX0_firstOwner_17 : decode cX0_firstOwner 17 = .ok (.getfield 43, 3) := by decide +kernel
theorem dX0_firstOwner_20 : decode cX0_firstOwner 20 = .ok (.iload_n 2, 1) := by decide +kernel
theorem dX0_firstOwner_21 : decode cX0_firstOwner 21 = .ok (.baload, 1) := by decide +kernel
theorem dX0_firstOwner_22 : decode cX0_firstOwner 22 = .ok (.ifCond .le 48, 3) := by decide +kernel
theorem dX0_firstOwner_25 : decode cX0_firstOwner 25 = .ok (.aload_n 0, 1) := by decide +kernel
theorem dX0_firstOwner_26 : decode cX0_firstOwner 26 = .ok (.iload_n 2, 1) := by decide +kernel
theorem dX0_firstOwner_27 : decode cX0_firstOwner 27 = .ok (.iload_n 1, 1) := by decide +kernel
theorem dX0_firstOwner_28 : decode cX0_firstOwner 28 = .ok (.invokevirtual 88, 3) := by decide +kernel
theorem dX0_firstOwner_31 : decode cX0_firstOwner 31 = .ok (.ifCond .eq 39, 3) := by decide +kernel
theorem dX0_firstOwner_34 : decode cX0_firstOwner 34 = .ok (.aload_n 0, 1) := by decide +kernel
theorem dX0_firstOwner_35 : decode cX0_firstOwner 35 = .ok (.getfield 43, 3) := by decide +kernel
theorem dX0_firstOwner_38 : decode cX0_firstOwner 38 = .ok (.iload_n 2, 1) := by decide +kernel
theorem dX0_firstOwner_39 : decode cX0_firstOwner 39 = .ok (.dup2, 1) := by decide +kernel
theorem dX0_firstOwner_40 : decode cX0_firstOwner 40 = .ok (.baload, 1) := by decide +kernel
theorem dX0_firstOwner_41 : decode cX0_firstOwner 41 = .ok (.iconst 1, 1) := by decide +kernel
theorem dX0_firstOwner_42 : decode cX0_firstOwner 42 = .ok (.isub, 1) := by decide +kernel
theorem dX0_firstOwner_43 : decode cX0_firstOwner 43 = .ok (.i2b, 1) := by decide +kernel
theorem dX0_firstOwner_44 : decode cX0_firstOwner 44 = .ok (.bastore, 1) := by decide +kernel
theorem dX0_firstOwner_45 : decode cX0_firstOwner 45 = .ok (.aload_n 0, 1) := by decide +kernel
theorem dX0_firstOwner_46 : decode cX0_firstOwner 46 = .ok (.iload_n 1, 1) := by decide +kernel
theorem dX0_firstOwner_47 : decode cX0_firstOwner 47 = .ok (.iconst 1, 1) := by decide +kernel
theorem dX0_firstOwner_48 : decode cX0_firstOwner 48 = .ok (.iadd, 1) := by decide +kernel
theorem dX0_firstOwner_49 : decode cX0_firstOwner 49 = .ok (.invokevirtual 117, 3) := by decide +kernel
theorem dX0_firstOwner_52 : decode cX0_firstOwner 52 = .ok (.istore_n 3, 1) := by decide +kernel
theorem dX0_firstOwner_53 : decode cX0_firstOwner 53 = .ok (.aload_n 0, 1) := by decide +kernel
theorem dX0_firstOwner_54 : decode cX0_firstOwner 54 = .ok (.getfield 43, 3) := by decide +kernel
theorem dX0_firstOwner_57 : decode cX0_firstOwner 57 = .ok (.iload_n 2, 1) := by decide +kernel
theorem dX0_firstOwner_58 : decode cX0_firstOwner 58 = .ok (.dup2, 1) := by decide +kernel
theorem dX0_firstOwner_59 : decode cX0_firstOwner 59 = .ok (.baload, 1) := by decide +kernel
theorem dX0_firstOwner_60 : decode cX0_firstOwner 60 = .ok (.iconst 1, 1) := by decide +kernel
theorem dX0_firstOwner_61 : decode cX0_firstOwner 61 = .ok (.iadd, 1) := by decide +kernel
theorem dX0_firstOwner_62 : decode cX0_firstOwner 62 = .ok (.i2b, 1) := by decide +kernel
theorem dX0_firstOwner_63 : decode cX0_firstOwner 63 = .ok (.bastore, 1) := by decide +kernel
theorem dX0_firstOwner_64 : decode cX0_firstOwner 64 = .ok (.iload_n 3, 1) := by decide +kernel
theorem dX0_firstOwner_65 : decode cX0_firstOwner 65 = .ok (.ifCond .eq 5, 3) := by decide +kernel
theorem dX0_firstOwner_68 : decode cX0_firstOwner 68 = .ok (.iload_n 2, 1) := by decide +kernel
theorem dX0_firstOwner_69 : decode cX0_firstOwner 69 = .ok (.ireturn, 1) := by decide +kernel
theorem dX0_firstOwner_70 : decode cX0_firstOwner 70 = .ok (.iinc 2 1, 3) := by decide +kernel
theorem dX0_firstOwner_73 : decode cX0_firstOwner 73 = .ok (.goto (-71), 3) := by decide +kernel
theorem dX0_firstOwner_76 : decode cX0_firstOwner 76 = .ok (.iconst (-1), 1) := by decide +kernel
theorem dX0_firstOwner_77 : decode cX0_firstOwner 77 = .ok (.ireturn, 1) := by decide +kernel
theorem dX0_restFits_0 : decode cX0_restFits 0 = .ok (.aload_n 0, 1) := by decide +kernel
theorem dX0_restFits_1 : decode cX0_restFits 1 = .ok (.aload_n 0, 1) := by decide +kernel
theorem dX0_restFits_2 : decode cX0_restFits 2 = .ok (.getfield 69, 3) := by decide +kernel
theorem dX0_restFits_5 : decode cX0_restFits 5 = .ok (.iconst 1, 1) := by decide +kernel
theorem dX0_restFits_6 : decode cX0_restFits 6 = .ok (.iload_n 1, 1) := by decide +kernel
theorem dX0_restFits_7 : decode cX0_restFits 7 = .ok (.ishl, 1) := by decide +kernel
theorem dX0_restFits_8 : decode cX0_restFits 8 = .ok (.iconst 1, 1) := by decide +kernel
theorem dX0_restFits_9 : decode cX0_restFits 9 = .ok (.isub, 1) := by decide +kernel
theorem dX0_restFits_10 : decode cX0_restFits 10 = .ok (.ior, 1) := by decide +kernel
theorem dX0_restFits_11 : decode cX0_restFits 11 = .ok (.invokevirtual 98, 3) := by decide +kernel
theorem dX0_restFits_14 : decode cX0_restFits 14 = .ok (.iconst 0, 1) := by decide +kernel
theorem dX0_restFits_15 : decode cX0_restFits 15 = .ok (.istore_n 2, 1) := by decide +kernel
theorem dX0_restFits_16 : decode cX0_restFits 16 = .ok (.iload_n 2, 1) := by decide +kernel
theorem dX0_restFits_17 : decode cX0_restFits 17 = .ok (.bipush 6, 2) := by decide +kernel
theorem dX0_restFits_19 : decode cX0_restFits 19 = .ok (.if_icmp .ge 25, 3) := by decide +kernel
theorem dX0_restFits_22 : decode cX0_restFits 22 = .ok (.aload_n 0, 1) := by decide +kernel
theorem dX0_restFits_23 : decode cX0_restFits 23 = .ok (.iload_n 2, 1) := by decide +kernel
theorem dX0_restFits_24 : decode cX0_restFits 24 = .ok (.aload_n 0, 1) := by decide +kernel
theorem dX0_restFits_25 : decode cX0_restFits 25 = .ok (.getfield 43, 3) := by decide +kernel
theorem dX0_restFits_28 : decode cX0_restFits 28 = .ok (.iload_n 2, 1) := by decide +kernel
theorem dX0_restFits_29 : decode cX0_restFits 29 = .ok (.baload, 1) := by decide +kernel
theorem dX0_restFits_30 : decode cX0_restFits 30 = .ok (.invokevirtual 95, 3) := by decide +kernel
theorem dX0_restFits_33 : decode cX0_restFits 33 = .ok (.ifCond .ne 5, 3) := by decide +kernel
theorem dX0_restFits_36 : decode cX0_restFits 36 = .ok (.iconst 0, 1) := by decide +kernel
theorem dX0_restFits_37 : decode cX0_restFits 37 = .ok (.ireturn, 1) := by decide +kernel
theorem dX0_restFits_38 : decode cX0_restFits 38 = .ok (.iinc 2 1, 3) := by decide +kernel
theorem dX0_restFits_41 : decode cX0_restFits 41 = .ok (.goto (-25), 3) := by decide +kernel
theorem dX0_restFits_44 : decode cX0_restFits 44 = .ok (.iconst 1, 1) := by decide +kernel
theorem dX0_restFits_45 : decode cX0_restFits 45 = .ok (.ireturn, 1) := by decide +kernel
theorem dX0_kept_0 : decode cX0_kept 0 = .ok (.aload_n 0, 1) := by decide +kernel
theorem dX0_kept_1 : decode cX0_kept 1 = .ok (.iload_n 1, 1) := by decide +kernel
theorem dX0_kept_2 : decode cX0_kept 2 = .ok (.invokevirtual 58, 3) := by decide +kernel
theorem dX0_kept_5 : decode cX0_kept 5 = .ok (.ifCond .ne 5, 3) := by decide +kernel
theorem dX0_kept_8 : decode cX0_kept 8 = .ok (.iconst (-1), 1) := by decide +kernel
theorem dX0_kept_9 : decode cX0_kept 9 = .ok (.ireturn, 1) := by decide +kernel
theorem dX0_kept_10 : decode cX0_kept 10 = .ok (.aload_n 0, 1) := by decide +kernel
theorem dX0_kept_11 : decode cX0_kept 11 = .ok (.invokevirtual 120, 3) := by decide +kernel
theorem dX0_kept_14 : decode cX0_kept 14 = .ok (.aload_n 0, 1) := by decide +kernel
theorem dX0_kept_15 : decode cX0_kept 15 = .ok (.getfield 37, 3) := by decide +kernel
theorem dX0_kept_18 : decode cX0_kept 18 = .ok (.iload_n 1, 1) := by decide +kernel
theorem dX0_kept_19 : decode cX0_kept 19 = .ok (.baload, 1) := by decide +kernel
theorem dX0_kept_20 : decode cX0_kept 20 = .ok (.ireturn, 1) := by decide +kernel
theorem dX0_at_0 : decode cX0_at 0 = .ok (.iload_n 1, 1) := by decide +kernel
theorem dX0_at_1 : decode cX0_at 1 = .ok (.ifCond .lt 9, 3) := by decide +kernel
theorem dX0_at_4 : decode cX0_at 4 = .ok (.iload_n 1, 1) := by decide +kernel
theorem dX0_at_5 : decode cX0_at 5 = .ok (.bipush 24, 2) := by decide +kernel
theorem dX0_at_7 : decode cX0_at 7 = .ok (.if_icmp .lt 5, 3) := by decide +kernel
theorem dX0_at_10 : decode cX0_at 10 = .ok (.iconst (-1), 1) := by decide +kernel
theorem dX0_at_11 : decode cX0_at 11 = .ok (.ireturn, 1) := by decide +kernel
theorem dX0_at_12 : decode cX0_at 12 = .ok (.aload_n 0, 1) := by decide +kernel
theorem dX0_at_13 : decode cX0_at 13 = .ok (.invokevirtual 120, 3) := by decide +kernel
theorem dX0_at_16 : decode cX0_at 16 = .ok (.aload_n 0, 1) := by decide +kernel
theorem dX0_at_17 : decode cX0_at 17 = .ok (.getfield 40, 3) := by decide +kernel
theorem dX0_at_20 : decode cX0_at 20 = .ok (.iload_n 1, 1) := by decide +kernel
theorem dX0_at_21 : decode cX0_at 21 = .ok (.baload, 1) := by decide +kernel
theorem dX0_at_22 : decode cX0_at 22 = .ok (.ireturn, 1) := by decide +kernel
theorem dX0_greatestMust_0 : decode cX0_greatestMust 0 = .ok (.aload_n 0, 1) := by decide +kernel
theorem dX0_greatestMust_1 : decode cX0_greatestMust 1 = .ok (.iload_n 1, 1) := by decide +kernel
theorem dX0_greatestMust_2 : decode cX0_greatestMust 2 = .ok (.invokevirtual 58, 3) := by decide +kernel
theorem dX0_greatestMust_5 : decode cX0_greatestMust 5 = .ok (.ifCond .ne 5, 3) := by decide +kernel
theorem dX0_greatestMust_8 : decode cX0_greatestMust 8 = .ok (.iconst (-1), 1) := by decide +kernel
theorem dX0_greatestMust_9 : decode cX0_greatestMust 9 = .ok (.ireturn, 1) := by decide +kernel
theorem dX0_greatestMust_10 : decode cX0_greatestMust 10 = .ok (.aload_n 0, 1) := by decide +kernel
theorem dX0_greatestMust_11 : decode cX0_greatestMust 11 = .ok (.aload_n 0, 1) := by decide +kernel
theorem dX0_greatestMust_12 : decode cX0_greatestMust 12 = .ok (.getfield 69, 3) := by decide +kernel
theorem dX0_greatestMust_15 : decode cX0_greatestMust 15 = .ok (.invokevirtual 98, 3) := by decide +kernel
theorem dX0_greatestMust_18 : decode cX0_greatestMust 18 = .ok (.aload_n 0, 1) := by decide +kernel
theorem dX0_greatestMust_19 : decode cX0_greatestMust 19 = .ok (.invokevirtual 102, 3) := by decide +kernel
theorem dX0_greatestMust_22 : decode cX0_greatestMust 22 = .ok (.pop, 1) := by decide +kernel
theorem dX0_greatestMust_23 : decode cX0_greatestMust 23 = .ok (.aload_n 0, 1) := by decide +kernel
theorem dX0_greatestMust_24 : decode cX0_greatestMust 24 = .ok (.getfield 16, 3) := by decide +kernel
theorem dX0_greatestMust_27 : decode cX0_greatestMust 27 = .ok (.iload_n 1, 1) := by decide +kernel
theorem dX0_greatestMust_28 : decode cX0_greatestMust 28 = .ok (.baload, 1) := by decide +kernel
theorem dX0_greatestMust_29 : decode cX0_greatestMust 29 = .ok (.istore_n 2, 1) := by decide +kernel
theorem dX0_greatestMust_30 : decode cX0_greatestMust 30 = .ok (.iload_n 2, 1) := by decide +kernel
theorem dX0_greatestMust_31 : decode cX0_greatestMust 31 = .ok (.bipush 6, 2) := by decide +kernel
theorem dX0_greatestMust_33 : decode cX0_greatestMust 33 = .ok (.if_icmp .ge 17, 3) := by decide +kernel
theorem dX0_greatestMust_36 : decode cX0_greatestMust 36 = .ok (.aload_n 0, 1) := by decide +kernel
theorem dX0_greatestMust_37 : decode cX0_greatestMust 37 = .ok (.iload_n 1, 1) := by decide +kernel
theorem dX0_greatestMust_38 : decode cX0_greatestMust 38 = .ok (.invokevirtual 92, 3) := by decide +kernel
theorem dX0_greatestMust_41 : decode cX0_greatestMust 41 = .ok (.ifCond .eq 9, 3) := by decide +kernel
theorem dX0_greatestMust_44 : decode cX0_greatestMust 44 = .ok (.iinc 2 1, 3) := by decide +kernel
theorem dX0_greatestMust_47 : decode cX0_greatestMust 47 = .ok (.goto (-17), 3) := by decide +kernel
theorem dX0_greatestMust_50 : decode cX0_greatestMust 50 = .ok (.iload_n 2, 1) := by decide +kernel
theorem dX0_greatestMust_51 : decode cX0_greatestMust 51 = .ok (.ireturn, 1) := by decide +kernel
theorem dX0_lossWithout_0 : decode cX0_lossWithout 0 = .ok (.iload_n 1, 1) := by decide +kernel
theorem dX0_lossWithout_1 : decode cX0_lossWithout 1 = .ok (.ifCond .lt 9, 3) := by decide +kernel
theorem dX0_lossWithout_4 : decode cX0_lossWithout 4 = .ok (.iload_n 1, 1) := by decide +kernel
theorem dX0_lossWithout_5 : decode cX0_lossWithout 5 = .ok (.bipush 24, 2) := by decide +kernel
theorem dX0_lossWithout_7 : decode cX0_lossWithout 7 = .ok (.if_icmp .lt 5, 3) := by decide +kernel
theorem dX0_lossWithout_10 : decode cX0_lossWithout 10 = .ok (.iconst (-1), 1) := by decide +kernel
theorem dX0_lossWithout_11 : decode cX0_lossWithout 11 = .ok (.ireturn, 1) := by decide +kernel
theorem dX0_lossWithout_12 : decode cX0_lossWithout 12 = .ok (.aload_n 0, 1) := by decide +kernel
theorem dX0_lossWithout_13 : decode cX0_lossWithout 13 = .ok (.iconst 0, 1) := by decide +kernel
theorem dX0_lossWithout_14 : decode cX0_lossWithout 14 = .ok (.putfield 50, 3) := by decide +kernel
theorem dX0_lossWithout_17 : decode cX0_lossWithout 17 = .ok (.aload_n 0, 1) := by decide +kernel
theorem dX0_lossWithout_18 : decode cX0_lossWithout 18 = .ok (.aload_n 0, 1) := by decide +kernel
theorem dX0_lossWithout_19 : decode cX0_lossWithout 19 = .ok (.getfield 69, 3) := by decide +kernel
theorem dX0_lossWithout_22 : decode cX0_lossWithout 22 = .ok (.iconst 1, 1) := by decide +kernel
theorem dX0_lossWithout_23 : decode cX0_lossWithout 23 = .ok (.iload_n 1, 1) := by decide +kernel
theorem dX0_lossWithout_24 : decode cX0_lossWithout 24 = .ok (.ishl, 1) := by decide +kernel
theorem dX0_lossWithout_25 : decode cX0_lossWithout 25 = .ok (.ior, 1) := by decide +kernel
theorem dX0_lossWithout_26 : decode cX0_lossWithout 26 = .ok (.invokevirtual 108, 3) := by decide +kernel
theorem dX0_lossWithout_29 : decode cX0_lossWithout 29 = .ok (.istore_n 2, 1) := by decide +kernel
theorem dX0_lossWithout_30 : decode cX0_lossWithout 30 = .ok (.iload_n 2, 1) := by decide +kernel
theorem dX0_lossWithout_31 : decode cX0_lossWithout 31 = .ok (.ifCond .ge 7, 3) := by decide +kernel
theorem dX0_lossWithout_34 : decode cX0_lossWithout 34 = .ok (.iconst (-1), 1) := by decide +kernel
theorem dX0_lossWithout_35 : decode cX0_lossWithout 35 = .ok (.goto 4, 3) := by decide +kernel
theorem dX0_lossWithout_38 : decode cX0_lossWithout 38 = .ok (.iload_n 2, 1) := by decide +kernel
theorem dX0_lossWithout_39 : decode cX0_lossWithout 39 = .ok (.ireturn, 1) := by decide +kernel
theorem dX0_freeable_0 : decode cX0_freeable 0 = .ok (.iload_n 1, 1) := by decide +kernel
theorem dX0_freeable_1 : decode cX0_freeable 1 = .ok (.ifCond .lt 14, 3) := by decide +kernel
theorem dX0_freeable_4 : decode cX0_freeable 4 = .ok (.iload_n 2, 1) := by decide +kernel
theorem dX0_freeable_5 : decode cX0_freeable 5 = .ok (.bipush 24, 2) := by decide +kernel
theorem dX0_freeable_7 : decode cX0_freeable 7 = .ok (.if_icmp .gt 8, 3) := by decide +kernel
theorem dX0_freeable_10 : decode cX0_freeable 10 = .ok (.iload_n 1, 1) := by decide +kernel
theorem dX0_freeable_11 : decode cX0_freeable 11 = .ok (.iload_n 2, 1) := by decide +kernel
theorem dX0_freeable_12 : decode cX0_freeable 12 = .ok (.if_icmp .lt 5, 3) := by decide +kernel
theorem dX0_freeable_15 : decode cX0_freeable 15 = .ok (.iconst (-1), 1) := by decide +kernel
theorem dX0_freeable_16 : decode cX0_freeable 16 = .ok (.ireturn, 1) := by decide +kernel
theorem dX0_freeable_17 : decode cX0_freeable 17 = .ok (.iload_n 1, 1) := by decide +kernel
theorem dX0_freeable_18 : decode cX0_freeable 18 = .ok (.iload_n 2, 1) := by decide +kernel
theorem dX0_freeable_19 : decode cX0_freeable 19 = .ok (.invokestatic 123, 3) := by decide +kernel
theorem dX0_freeable_22 : decode cX0_freeable 22 = .ok (.aload_n 0, 1) := by decide +kernel
theorem dX0_freeable_23 : decode cX0_freeable 23 = .ok (.getfield 69, 3) := by decide +kernel
theorem dX0_freeable_26 : decode cX0_freeable 26 = .ok (.iconst (-1), 1) := by decide +kernel
theorem dX0_freeable_27 : decode cX0_freeable 27 = .ok (.ixor, 1) := by decide +kernel
theorem dX0_freeable_28 : decode cX0_freeable 28 = .ok (.iand, 1) := by decide +kernel
theorem dX0_freeable_29 : decode cX0_freeable 29 = .ok (.istore_n 3, 1) := by decide +kernel
theorem dX0_freeable_30 : decode cX0_freeable 30 = .ok (.aload_n 0, 1) := by decide +kernel
theorem dX0_freeable_31 : decode cX0_freeable 31 = .ok (.aload_n 0, 1) := by decide +kernel
theorem dX0_freeable_32 : decode cX0_freeable 32 = .ok (.getfield 69, 3) := by decide +kernel
theorem dX0_freeable_35 : decode cX0_freeable 35 = .ok (.iload_n 3, 1) := by decide +kernel
theorem dX0_freeable_36 : decode cX0_freeable 36 = .ok (.ior, 1) := by decide +kernel
theorem dX0_freeable_37 : decode cX0_freeable 37 = .ok (.invokevirtual 98, 3) := by decide +kernel
theorem dX0_freeable_40 : decode cX0_freeable 40 = .ok (.iconst 0, 1) := by decide +kernel
theorem dX0_freeable_41 : decode cX0_freeable 41 = .ok (.istore 4, 2) := by decide +kernel
theorem dX0_freeable_43 : decode cX0_freeable 43 = .ok (.iconst 0, 1) := by decide +kernel
theorem dX0_freeable_44 : decode cX0_freeable 44 = .ok (.istore 5, 2) := by decide +kernel
theorem dX0_freeable_46 : decode cX0_freeable 46 = .ok (.iconst 0, 1) := by decide +kernel
theorem dX0_freeable_47 : decode cX0_freeable 47 = .ok (.istore 6, 2) := by decide +kernel
theorem dX0_freeable_49 : decode cX0_freeable 49 = .ok (.iload 6, 2) := by decide +kernel
theorem dX0_freeable_51 : decode cX0_freeable 51 = .ok (.bipush 6, 2) := by decide +kernel
theorem dX0_freeable_53 : decode cX0_freeable 53 = .ok (.if_icmp .ge 73, 3) := by decide +kernel
theorem dX0_freeable_56 : decode cX0_freeable 56 = .ok (.aload_n 0, 1) := by decide +kernel
theorem dX0_freeable_57 : decode cX0_freeable 57 = .ok (.iload 6, 2) := by decide +kernel
theorem dX0_freeable_59 : decode cX0_freeable 59 = .ok (.invokevirtual 58, 3) := by decide +kernel
theorem dX0_freeable_62 : decode cX0_freeable 62 = .ok (.ifCond .eq 13, 3) := by decide +kernel
theorem dX0_freeable_65 : decode cX0_freeable 65 = .ok (.aload_n 0, 1) := by decide +kernel
theorem dX0_freeable_66 : decode cX0_freeable 66 = .ok (.getfield 16, 3) := by decide +kernel
theorem dX0_freeable_69 : decode cX0_freeable 69 = .ok (.iload 6, 2) := by decide +kernel
theorem dX0_freeable_71 : decode cX0_freeable 71 = .ok (.baload, 1) := by decide +kernel
theorem dX0_freeable_72 : decode cX0_freeable 72 = .ok (.goto 4, 3) := by decide +kernel
theorem dX0_freeable_75 : decode cX0_freeable 75 = .ok (.iconst 0, 1) := by decide +kernel
theorem dX0_freeable_76 : decode cX0_freeable 76 = .ok (.istore 7, 2) := by decide +kernel
theorem dX0_freeable_78 : decode cX0_freeable 78 = .ok (.iload 5, 2) := by decide +kernel
theorem dX0_freeable_80 : decode cX0_freeable 80 = .ok (.iload 7, 2) := by decide +kernel
theorem dX0_freeable_82 : decode cX0_freeable 82 = .ok (.iadd, 1) := by decide +kernel
theorem dX0_freeable_83 : decode cX0_freeable 83 = .ok (.istore 5, 2) := by decide +kernel
theorem dX0_freeable_85 : decode cX0_freeable 85 = .ok (.iconst 0, 1) := by decide +kernel
theorem dX0_freeable_86 : decode cX0_freeable 86 = .ok (.istore 8, 2) := by decide +kernel
theorem dX0_freeable_88 : decode cX0_freeable 88 = .ok (.iload 8, 2) := by decide +kernel
theorem dX0_freeable_90 : decode cX0_freeable 90 = .ok (.iload 7, 2) := by decide +kernel
theorem dX0_freeable_92 : decode cX0_freeable 92 = .ok (.if_icmp .ge 28, 3) := by decide +kernel
theorem dX0_freeable_95 : decode cX0_freeable 95 = .ok (.iload 4, 2) := by decide +kernel
theorem dX0_freeable_97 : decode cX0_freeable 97 = .ok (.aload_n 0, 1) := by decide +kernel
theorem dX0_freeable_98 : decode cX0_freeable 98 = .ok (.iload 6, 2) := by decide +kernel
theorem dX0_freeable_100 : decode cX0_freeable 100 = .ok (.invokevirtual 92, 3) := by decide +kernel
theorem dX0_freeable_103 : decode cX0_freeable 103 = .ok (.ifCond .eq 7, 3) := by decide +kernel
theorem dX0_freeable_106 : decode cX0_freeable 106 = .ok (.iconst 1, 1) := by decide +kernel
theorem dX0_freeable_107 : decode cX0_freeable 107 = .ok (.goto 4, 3) := by decide +kernel
theorem dX0_freeable_110 : decode cX0_freeable 110 = .ok (.iconst 0, 1) := by decide +kernel
theorem dX0_freeable_111 : decode cX0_freeable 111 = .ok (.iadd, 1) := by decide +kernel
theorem dX0_freeable_112 : decode cX0_freeable 112 = .ok (.istore 4, 2) := by decide +kernel
theorem dX0_freeable_114 : decode cX0_freeable 114 = .ok (.iinc 8 1, 3) := by decide +kernel
theorem dX0_freeable_117 : decode cX0_freeable 117 = .ok (.goto (-29), 3) := by decide +kernel
theorem dX0_freeable_120 : decode cX0_freeable 120 = .ok (.iinc 6 1, 3) := by decide +kernel
theorem dX0_freeable_123 : decode cX0_freeable 123 = .ok (.goto (-74), 3) := by decide +kernel
theorem dX0_freeable_126 : decode cX0_freeable 126 = .ok (.iload_n 3, 1) := by decide +kernel
theorem dX0_freeable_127 : decode cX0_freeable 127 = .ok (.invokestatic 127, 3) := by decide +kernel
theorem dX0_freeable_130 : decode cX0_freeable 130 = .ok (.iload 5, 2) := by decide +kernel
theorem dX0_freeable_132 : decode cX0_freeable 132 = .ok (.iload 4, 2) := by decide +kernel
theorem dX0_freeable_134 : decode cX0_freeable 134 = .ok (.isub, 1) := by decide +kernel
theorem dX0_freeable_135 : decode cX0_freeable 135 = .ok (.isub, 1) := by decide +kernel
theorem dX0_freeable_136 : decode cX0_freeable 136 = .ok (.ireturn, 1) := by decide +kernel
theorem dX0_span_0 : decode cX0_span 0 = .ok (.iconst 1, 1) := by decide +kernel
theorem dX0_span_1 : decode cX0_span 1 = .ok (.iload_n 1, 1) := by decide +kernel
theorem dX0_span_2 : decode cX0_span 2 = .ok (.ishl, 1) := by decide +kernel
theorem dX0_span_3 : decode cX0_span 3 = .ok (.iconst 1, 1) := by decide +kernel
theorem dX0_span_4 : decode cX0_span 4 = .ok (.isub, 1) := by decide +kernel
theorem dX0_span_5 : decode cX0_span 5 = .ok (.iconst 1, 1) := by decide +kernel
theorem dX0_span_6 : decode cX0_span 6 = .ok (.iload_n 0, 1) := by decide +kernel
theorem dX0_span_7 : decode cX0_span 7 = .ok (.ishl, 1) := by decide +kernel
theorem dX0_span_8 : decode cX0_span 8 = .ok (.iconst 1, 1) := by decide +kernel
theorem dX0_span_9 : decode cX0_span 9 = .ok (.isub, 1) := by decide +kernel
theorem dX0_span_10 : decode cX0_span 10 = .ok (.iconst (-1), 1) := by decide +kernel
theorem dX0_span_11 : decode cX0_span 11 = .ok (.ixor, 1) := by decide +kernel
theorem dX0_span_12 : decode cX0_span 12 = .ok (.iand, 1) := by decide +kernel
theorem dX0_span_13 : decode cX0_span 13 = .ok (.ireturn, 1) := by decide +kernel
theorem dX0_count_0 : decode cX0_count 0 = .ok (.iconst 0, 1) := by decide +kernel
theorem dX0_count_1 : decode cX0_count 1 = .ok (.istore_n 1, 1) := by decide +kernel
theorem dX0_count_2 : decode cX0_count 2 = .ok (.iconst 0, 1) := by decide +kernel
theorem dX0_count_3 : decode cX0_count 3 = .ok (.istore_n 2, 1) := by decide +kernel
theorem dX0_count_4 : decode cX0_count 4 = .ok (.iload_n 2, 1) := by decide +kernel
theorem dX0_count_5 : decode cX0_count 5 = .ok (.bipush 24, 2) := by decide +kernel
theorem dX0_count_7 : decode cX0_count 7 = .ok (.if_icmp .ge 17, 3) := by decide +kernel
theorem dX0_count_10 : decode cX0_count 10 = .ok (.iload_n 1, 1) := by decide +kernel
theorem dX0_count_11 : decode cX0_count 11 = .ok (.iload_n 0, 1) := by decide +kernel
theorem dX0_count_12 : decode cX0_count 12 = .ok (.iload_n 2, 1) := by decide +kernel
theorem dX0_count_13 : decode cX0_count 13 = .ok (.ishr, 1) := by decide +kernel
theorem dX0_count_14 : decode cX0_count 14 = .ok (.iconst 1, 1) := by decide +kernel
theorem dX0_count_15 : decode cX0_count 15 = .ok (.iand, 1) := by decide +kernel
theorem dX0_count_16 : decode cX0_count 16 = .ok (.iadd, 1) := by decide +kernel
theorem dX0_count_17 : decode cX0_count 17 = .ok (.istore_n 1, 1) := by decide +kernel
theorem dX0_count_18 : decode cX0_count 18 = .ok (.iinc 2 1, 3) := by decide +kernel
theorem dX0_count_21 : decode cX0_count 21 = .ok (.goto (-17), 3) := by decide +kernel
theorem dX0_count_24 : decode cX0_count 24 = .ok (.iload_n 1, 1) := by decide +kernel
theorem dX0_count_25 : decode cX0_count 25 = .ok (.ireturn, 1) := by decide +kernel
theorem dX0_idle_0 : decode cX0_idle 0 = .ok (.aload_n 0, 1) := by decide +kernel
theorem dX0_idle_1 : decode cX0_idle 1 = .ok (.invokevirtual 120, 3) := by decide +kernel
theorem dX0_idle_4 : decode cX0_idle 4 = .ok (.bipush 24, 2) := by decide +kernel
theorem dX0_idle_6 : decode cX0_idle 6 = .ok (.aload_n 0, 1) := by decide +kernel
theorem dX0_idle_7 : decode cX0_idle 7 = .ok (.getfield 69, 3) := by decide +kernel
theorem dX0_idle_10 : decode cX0_idle 10 = .ok (.invokestatic 127, 3) := by decide +kernel
theorem dX0_idle_13 : decode cX0_idle 13 = .ok (.isub, 1) := by decide +kernel
theorem dX0_idle_14 : decode cX0_idle 14 = .ok (.istore_n 1, 1) := by decide +kernel
theorem dX0_idle_15 : decode cX0_idle 15 = .ok (.iconst 0, 1) := by decide +kernel
theorem dX0_idle_16 : decode cX0_idle 16 = .ok (.istore_n 2, 1) := by decide +kernel
theorem dX0_idle_17 : decode cX0_idle 17 = .ok (.iload_n 2, 1) := by decide +kernel
theorem dX0_idle_18 : decode cX0_idle 18 = .ok (.bipush 6, 2) := by decide +kernel
theorem dX0_idle_20 : decode cX0_idle 20 = .ok (.if_icmp .ge 33, 3) := by decide +kernel
theorem dX0_idle_23 : decode cX0_idle 23 = .ok (.aload_n 0, 1) := by decide +kernel
theorem dX0_idle_24 : decode cX0_idle 24 = .ok (.iload_n 2, 1) := by decide +kernel
theorem dX0_idle_25 : decode cX0_idle 25 = .ok (.invokevirtual 58, 3) := by decide +kernel
theorem dX0_idle_28 : decode cX0_idle 28 = .ok (.ifCond .eq 19, 3) := by decide +kernel
theorem dX0_idle_31 : decode cX0_idle 31 = .ok (.iload_n 1, 1) := by decide +kernel
theorem dX0_idle_32 : decode cX0_idle 32 = .ok (.aload_n 0, 1) := by decide +kernel
theorem dX0_idle_33 : decode cX0_idle 33 = .ok (.getfield 16, 3) := by decide +kernel
theorem dX0_idle_36 : decode cX0_idle 36 = .ok (.iload_n 2, 1) := by decide +kernel
theorem dX0_idle_37 : decode cX0_idle 37 = .ok (.baload, 1) := by decide +kernel
theorem dX0_idle_38 : decode cX0_idle 38 = .ok (.aload_n 0, 1) := by decide +kernel
theorem dX0_idle_39 : decode cX0_idle 39 = .ok (.getfield 37, 3) := by decide +kernel
theorem dX0_idle_42 : decode cX0_idle 42 = .ok (.iload_n 2, 1) := by decide +kernel
theorem dX0_idle_43 : decode cX0_idle 43 = .ok (.baload, 1) := by decide +kernel
theorem dX0_idle_44 : decode cX0_idle 44 = .ok (.iadd, 1) := by decide +kernel
theorem dX0_idle_45 : decode cX0_idle 45 = .ok (.isub, 1) := by decide +kernel
theorem dX0_idle_46 : decode cX0_idle 46 = .ok (.istore_n 1, 1) := by decide +kernel
theorem dX0_idle_47 : decode cX0_idle 47 = .ok (.iinc 2 1, 3) := by decide +kernel
theorem dX0_idle_50 : decode cX0_idle 50 = .ok (.goto (-33), 3) := by decide +kernel
theorem dX0_idle_53 : decode cX0_idle 53 = .ok (.iload_n 1, 1) := by decide +kernel
theorem dX0_idle_54 : decode cX0_idle 54 = .ok (.ireturn, 1) := by decide +kernel
end
section
set_option maxRecDepth 100000
theorem dX1_init_0 : decode cX1_init 0 = .ok (.aload_n 0, 1) := by decide +kernel
theorem dX1_init_1 : decode cX1_init 1 = .ok (.invokespecial 1, 3) := by decide +kernel
theorem dX1_init_4 : decode cX1_init 4 = .ok (.aload_n 0, 1) := by decide +kernel
theorem dX1_init_5 : decode cX1_init 5 = .ok (.bipush 6, 2) := by decide +kernel
theorem dX1_init_7 : decode cX1_init 7 = .ok (.newarray .boolean, 2) := by decide +kernel
theorem dX1_init_9 : decode cX1_init 9 = .ok (.putfield 7, 3) := by decide +kernel
theorem dX1_init_12 : decode cX1_init 12 = .ok (.aload_n 0, 1) := by decide +kernel
theorem dX1_init_13 : decode cX1_init 13 = .ok (.bipush 6, 2) := by decide +kernel
theorem dX1_init_15 : decode cX1_init 15 = .ok (.newarray .int, 2) := by decide +kernel
theorem dX1_init_17 : decode cX1_init 17 = .ok (.putfield 13, 3) := by decide +kernel
theorem dX1_init_20 : decode cX1_init 20 = .ok (.aload_n 0, 1) := by decide +kernel
theorem dX1_init_21 : decode cX1_init 21 = .ok (.bipush 6, 2) := by decide +kernel
theorem dX1_init_23 : decode cX1_init 23 = .ok (.newarray .int, 2) := by decide +kernel
theorem dX1_init_25 : decode cX1_init 25 = .ok (.putfield 17, 3) := by decide +kernel
theorem dX1_init_28 : decode cX1_init 28 = .ok (.aload_n 0, 1) := by decide +kernel
theorem dX1_init_29 : decode cX1_init 29 = .ok (.bipush 6, 2) := by decide +kernel
theorem dX1_init_31 : decode cX1_init 31 = .ok (.newarray .int, 2) := by decide +kernel
theorem dX1_init_33 : decode cX1_init 33 = .ok (.putfield 20, 3) := by decide +kernel
theorem dX1_init_36 : decode cX1_init 36 = .ok (.aload_n 0, 1) := by decide +kernel
theorem dX1_init_37 : decode cX1_init 37 = .ok (.bipush 6, 2) := by decide +kernel
theorem dX1_init_39 : decode cX1_init 39 = .ok (.newarray .int, 2) := by decide +kernel
theorem dX1_init_41 : decode cX1_init 41 = .ok (.putfield 23, 3) := by decide +kernel
theorem dX1_init_44 : decode cX1_init 44 = .ok (.aload_n 0, 1) := by decide +kernel
theorem dX1_init_45 : decode cX1_init 45 = .ok (.bipush 6, 2) := by decide +kernel
theorem dX1_init_47 : decode cX1_init 47 = .ok (.newarray .int, 2) := by decide +kernel
theorem dX1_init_49 : decode cX1_init 49 = .ok (.putfield 26, 3) := by decide +kernel
theorem dX1_init_52 : decode cX1_init 52 = .ok (.aload_n 0, 1) := by decide +kernel
theorem dX1_init_53 : decode cX1_init 53 = .ok (.bipush 64, 2) := by decide +kernel
theorem dX1_init_55 : decode cX1_init 55 = .ok (.newarray .int, 2) := by decide +kernel
theorem dX1_init_57 : decode cX1_init 57 = .ok (.putfield 29, 3) := by decide +kernel
theorem dX1_init_60 : decode cX1_init 60 = .ok (.aload_n 0, 1) := by decide +kernel
theorem dX1_init_61 : decode cX1_init 61 = .ok (.bipush 6, 2) := by decide +kernel
theorem dX1_init_63 : decode cX1_init 63 = .ok (.newarray .int, 2) := by decide +kernel
theorem dX1_init_65 : decode cX1_init 65 = .ok (.putfield 32, 3) := by decide +kernel
theorem dX1_init_68 : decode cX1_init 68 = .ok (.aload_n 0, 1) := by decide +kernel
theorem dX1_init_69 : decode cX1_init 69 = .ok (.bipush 6, 2) := by decide +kernel
theorem dX1_init_71 : decode cX1_init 71 = .ok (.newarray .int, 2) := by decide +kernel
theorem dX1_init_73 : decode cX1_init 73 = .ok (.putfield 35, 3) := by decide +kernel
theorem dX1_init_76 : decode cX1_init 76 = .ok (.aload_n 0, 1) := by decide +kernel
theorem dX1_init_77 : decode cX1_init 77 = .ok (.bipush 6, 2) := by decide +kernel
theorem dX1_init_79 : decode cX1_init 79 = .ok (.newarray .int, 2) := by decide +kernel
theorem dX1_init_81 : decode cX1_init 81 = .ok (.putfield 38, 3) := by decide +kernel
theorem dX1_init_84 : decode cX1_init 84 = .ok (.aload_n 0, 1) := by decide +kernel
theorem dX1_init_85 : decode cX1_init 85 = .ok (.bipush 6, 2) := by decide +kernel
theorem dX1_init_87 : decode cX1_init 87 = .ok (.newarray .int, 2) := by decide +kernel
theorem dX1_init_89 : decode cX1_init 89 = .ok (.putfield 41, 3) := by decide +kernel
theorem dX1_init_92 : decode cX1_init 92 = .ok (.return_, 1) := by decide +kernel
theorem dX1_bring_0 : decode cX1_bring 0 = .ok (.iload_n 1, 1) := by decide +kernel
theorem dX1_bring_1 : decode cX1_bring 1 = .ok (.ifCond .lt 22, 3) := by decide +kernel
theorem dX1_bring_4 : decode cX1_bring 4 = .ok (.iload_n 1, 1) := by decide +kernel
theorem dX1_bring_5 : decode cX1_bring 5 = .ok (.iload_n 2, 1) := by decide +kernel
theorem dX1_bring_6 : decode cX1_bring 6 = .ok (.if_icmp .ge 17, 3) := by decide +kernel
theorem dX1_bring_9 : decode cX1_bring 9 = .ok (.iload_n 2, 1) := by decide +kernel
theorem dX1_bring_10 : decode cX1_bring 10 = .ok (.bipush 24, 2) := by decide +kernel
theorem dX1_bring_12 : decode cX1_bring 12 = .ok (.if_icmp .gt 11, 3) := by decide +kernel
theorem dX1_bring_15 : decode cX1_bring 15 = .ok (.aload_n 0, 1) := by decide +kernel
theorem dX1_bring_16 : decode cX1_bring 16 = .ok (.iload_n 3, 1) := by decide +kernel
theorem dX1_bring_17 : decode cX1_bring 17 = .ok (.invokevirtual 60, 3) := by decide +kernel
theorem dX1_bring_20 : decode cX1_bring 20 = .ok (.ifCond .ne 5, 3) := by decide +kernel
theorem dX1_bring_23 : decode cX1_bring 23 = .ok (.iconst (-1), 1) := by decide +kernel
theorem dX1_bring_24 : decode cX1_bring 24 = .ok (.ireturn, 1) := by decide +kernel
theorem dX1_bring_25 : decode cX1_bring 25 = .ok (.iconst 0, 1) := by decide +kernel
theorem dX1_bring_26 : decode cX1_bring 26 = .ok (.istore 4, 2) := by decide +kernel
theorem dX1_bring_28 : decode cX1_bring 28 = .ok (.iload 4, 2) := by decide +kernel
theorem dX1_bring_30 : decode cX1_bring 30 = .ok (.bipush 6, 2) := by decide +kernel
theorem dX1_bring_32 : decode cX1_bring 32 = .ok (.if_icmp .ge 79, 3) := by decide +kernel
theorem dX1_bring_35 : decode cX1_bring 35 = .ok (.aload_n 0, 1) := by decide +kernel
theorem dX1_bring_36 : decode cX1_bring 36 = .ok (.getfield 7, 3) := by decide +kernel
theorem dX1_bring_39 : decode cX1_bring 39 = .ok (.iload 4, 2) := by decide +kernel
theorem dX1_bring_41 : decode cX1_bring 41 = .ok (.baload, 1) := by decide +kernel
theorem dX1_bring_42 : decode cX1_bring 42 = .ok (.ifCond .ne 63, 3) := by decide +kernel
theorem dX1_bring_45 : decode cX1_bring 45 = .ok (.aload_n 0, 1) := by decide +kernel
theorem dX1_bring_46 : decode cX1_bring 46 = .ok (.getfield 7, 3) := by decide +kernel
theorem dX1_bring_49 : decode cX1_bring 49 = .ok (.iload 4, 2) := by decide +kernel
theorem dX1_bring_51 : decode cX1_bring 51 = .ok (.iconst 1, 1) := by decide +kernel
theorem dX1_bring_52 : decode cX1_bring 52 = .ok (.bastore, 1) := by decide +kernel
theorem dX1_bring_53 : decode cX1_bring 53 = .ok (.aload_n 0, 1) := by decide +kernel
theorem dX1_bring_54 : decode cX1_bring 54 = .ok (.getfield 13, 3) := by decide +kernel
theorem dX1_bring_57 : decode cX1_bring 57 = .ok (.iload 4, 2) := by decide +kernel
theorem dX1_bring_59 : decode cX1_bring 59 = .ok (.iload_n 1, 1) := by decide +kernel
theorem dX1_bring_60 : decode cX1_bring 60 = .ok (.iastore, 1) := by decide +kernel
theorem dX1_bring_61 : decode cX1_bring 61 = .ok (.aload_n 0, 1) := by decide +kernel
theorem dX1_bring_62 : decode cX1_bring 62 = .ok (.getfield 17, 3) := by decide +kernel
theorem dX1_bring_65 : decode cX1_bring 65 = .ok (.iload 4, 2) := by decide +kernel
theorem dX1_bring_67 : decode cX1_bring 67 = .ok (.iload_n 2, 1) := by decide +kernel
theorem dX1_bring_68 : decode cX1_bring 68 = .ok (.iastore, 1) := by decide +kernel
theorem dX1_bring_69 : decode cX1_bring 69 = .ok (.aload_n 0, 1) := by decide +kernel
theorem dX1_bring_70 : decode cX1_bring 70 = .ok (.iload 4, 2) := by decide +kernel
theorem dX1_bring_72 : decode cX1_bring 72 = .ok (.iload_n 3, 1) := by decide +kernel
theorem dX1_bring_73 : decode cX1_bring 73 = .ok (.invokevirtual 64, 3) := by decide +kernel
theorem dX1_bring_76 : decode cX1_bring 76 = .ok (.aload_n 0, 1) := by decide +kernel
theorem dX1_bring_77 : decode cX1_bring 77 = .ok (.getfield 7, 3) := by decide +kernel
theorem dX1_bring_80 : decode cX1_bring 80 = .ok (.iload 4, 2) := by decide +kernel
theorem dX1_bring_82 : decode cX1_bring 82 = .ok (.aload_n 0, 1) := by decide +kernel
theorem dX1_bring_83 : decode cX1_bring 83 = .ok (.invokevirtual 68, 3) := by decide +kernel
theorem dX1_bring_86 : decode cX1_bring 86 = .ok (.bastore, 1) := by decide +kernel
theorem dX1_bring_87 : decode cX1_bring 87 = .ok (.aload_n 0, 1) := by decide +kernel
theorem dX1_bring_88 : decode cX1_bring 88 = .ok (.getfield 7, 3) := by decide +kernel
theorem dX1_bring_91 : decode cX1_bring 91 = .ok (.iload 4, 2) := by decide +kernel
theorem dX1_bring_93 : decode cX1_bring 93 = .ok (.baload, 1) := by decide +kernel
theorem dX1_bring_94 : decode cX1_bring 94 = .ok (.ifCond .eq 8, 3) := by decide +kernel
theorem dX1_bring_97 : decode cX1_bring 97 = .ok (.iload 4, 2) := by decide +kernel
theorem dX1_bring_99 : decode cX1_bring 99 = .ok (.goto 5, 3) := by decide +kernel
theorem dX1_bring_102 : decode cX1_bring 102 = .ok (.bipush (-3), 2) := by decide +kernel
theorem dX1_bring_104 : decode cX1_bring 104 = .ok (.ireturn, 1) := by decide +kernel
theorem dX1_bring_105 : decode cX1_bring 105 = .ok (.iinc 4 1, 3) := by decide +kernel
theorem dX1_bring_108 : decode cX1_bring 108 = .ok (.goto (-80), 3) := by decide +kernel
theorem dX1_bring_111 : decode cX1_bring 111 = .ok (.bipush (-2), 2) := by decide +kernel
theorem dX1_bring_113 : decode cX1_bring 113 = .ok (.ireturn, 1) := by decide +kernel
theorem dX1_form_0 : decode cX1_form 0 = .ok (.iload_n 1, 1) := by decide +kernel
theorem dX1_form_1 : decode cX1_form 1 = .ok (.bipush 6, 2) := by decide +kernel
theorem dX1_form_3 : decode cX1_form 3 = .ok (.ishr, 1) := by decide +kernel
theorem dX1_form_4 : decode cX1_form 4 = .ok (.istore_n 2, 1) := by decide +kernel
theorem dX1_form_5 : decode cX1_form 5 = .ok (.iload_n 1, 1) := by decide +kernel
theorem dX1_form_6 : decode cX1_form 6 = .ok (.ifCond .lt 38, 3) := by decide +kernel
theorem dX1_form_9 : decode cX1_form 9 = .ok (.iload_n 1, 1) := by decide +kernel
theorem dX1_form_10 : decode cX1_form 10 = .ok (.bipush 7, 2) := by decide +kernel
theorem dX1_form_12 : decode cX1_form 12 = .ok (.iand, 1) := by decide +kernel
theorem dX1_form_13 : decode cX1_form 13 = .ok (.bipush 6, 2) := by decide +kernel
theorem dX1_form_15 : decode cX1_form 15 = .ok (.if_icmp .gt 29, 3) := by decide +kernel
theorem dX1_form_18 : decode cX1_form 18 = .ok (.iload_n 1, 1) := by decide +kernel
theorem dX1_form_19 : decode cX1_form 19 = .ok (.iconst 3, 1) := by decide +kernel
theorem dX1_form_20 : decode cX1_form 20 = .ok (.ishr, 1) := by decide +kernel
theorem dX1_form_21 : decode cX1_form 21 = .ok (.bipush 7, 2) := by decide +kernel
theorem dX1_form_23 : decode cX1_form 23 = .ok (.iand, 1) := by decide +kernel
theorem dX1_form_24 : decode cX1_form 24 = .ok (.bipush 6, 2) := by decide +kernel
theorem dX1_form_26 : decode cX1_form 26 = .ok (.if_icmp .gt 18, 3) := by decide +kernel
theorem dX1_form_29 : decode cX1_form 29 = .ok (.iload_n 2, 1) := by decide +kernel
theorem dX1_form_30 : decode cX1_form 30 = .ok (.iconst 1, 1) := by decide +kernel
theorem dX1_form_31 : decode cX1_form 31 = .ok (.if_icmp .lt 13, 3) := by decide +kernel
theorem dX1_form_34 : decode cX1_form 34 = .ok (.iload_n 2, 1) := by decide +kernel
theorem dX1_form_35 : decode cX1_form 35 = .ok (.bipush 9, 2) := by decide +kernel
theorem dX1_form_37 : decode cX1_form 37 = .ok (.if_icmp .gt 7, 3) := by decide +kernel
theorem dX1_form_40 : decode cX1_form 40 = .ok (.iconst 1, 1) := by decide +kernel
theorem dX1_form_41 : decode cX1_form 41 = .ok (.goto 4, 3) := by decide +kernel
theorem dX1_form_44 : decode cX1_form 44 = .ok (.iconst 0, 1) := by decide +kernel
theorem dX1_form_45 : decode cX1_form 45 = .ok (.ireturn, 1) := by decide +kernel
theorem dX1_hold_0 : decode cX1_hold 0 = .ok (.aload_n 0, 1) := by decide +kernel
theorem dX1_hold_1 : decode cX1_hold 1 = .ok (.getfield 20, 3) := by decide +kernel
theorem dX1_hold_4 : decode cX1_hold 4 = .ok (.iload_n 1, 1) := by decide +kernel
theorem dX1_hold_5 : decode cX1_hold 5 = .ok (.iload_n 2, 1) := by decide +kernel
theorem dX1_hold_6 : decode cX1_hold 6 = .ok (.bipush 7, 2) := by decide +kernel
theorem dX1_hold_8 : decode cX1_hold 8 = .ok (.iand, 1) := by decide +kernel
theorem dX1_hold_9 : decode cX1_hold 9 = .ok (.iastore, 1) := by decide +kernel
theorem dX1_hold_10 : decode cX1_hold 10 = .ok (.aload_n 0, 1) := by decide +kernel
theorem dX1_hold_11 : decode cX1_hold 11 = .ok (.getfield 23, 3) := by decide +kernel
theorem dX1_hold_14 : decode cX1_hold 14 = .ok (.iload_n 1, 1) := by decide +kernel
theorem dX1_hold_15 : decode cX1_hold 15 = .ok (.iload_n 2, 1) := by decide +kernel
theorem dX1_hold_16 : decode cX1_hold 16 = .ok (.iconst 3, 1) := by decide +kernel
theorem dX1_hold_17 : decode cX1_hold 17 = .ok (.ishr, 1) := by decide +kernel
theorem dX1_hold_18 : decode cX1_hold 18 = .ok (.bipush 7, 2) := by decide +kernel
theorem dX1_hold_20 : decode cX1_hold 20 = .ok (.iand, 1) := by decide +kernel
theorem dX1_hold_21 : decode cX1_hold 21 = .ok (.iastore, 1) := by decide +kernel
theorem dX1_hold_22 : decode cX1_hold 22 = .ok (.aload_n 0, 1) := by decide +kernel
theorem dX1_hold_23 : decode cX1_hold 23 = .ok (.getfield 26, 3) := by decide +kernel
theorem dX1_hold_26 : decode cX1_hold 26 = .ok (.iload_n 1, 1) := by decide +kernel
theorem dX1_hold_27 : decode cX1_hold 27 = .ok (.iload_n 2, 1) := by decide +kernel
theorem dX1_hold_28 : decode cX1_hold 28 = .ok (.bipush 6, 2) := by decide +kernel
theorem dX1_hold_30 : decode cX1_hold 30 = .ok (.ishr, 1) := by decide +kernel
theorem dX1_hold_31 : decode cX1_hold 31 = .ok (.iastore, 1) := by decide +kernel
theorem dX1_hold_32 : decode cX1_hold 32 = .ok (.return_, 1) := by decide +kernel
theorem dX1_fits_0 : decode cX1_fits 0 = .ok (.aload_n 0, 1) := by decide +kernel
theorem dX1_fits_1 : decode cX1_fits 1 = .ok (.iconst 0, 1) := by decide +kernel
theorem dX1_fits_2 : decode cX1_fits 2 = .ok (.invokevirtual 52, 3) := by decide +kernel
theorem dX1_fits_5 : decode cX1_fits 5 = .ok (.iconst 0, 1) := by decide +kernel
theorem dX1_fits_6 : decode cX1_fits 6 = .ok (.istore_n 1, 1) := by decide +kernel
theorem dX1_fits_7 : decode cX1_fits 7 = .ok (.iload_n 1, 1) := by decide +kernel
theorem dX1_fits_8 : decode cX1_fits 8 = .ok (.bipush 6, 2) := by decide +kernel
theorem dX1_fits_10 : decode cX1_fits 10 = .ok (.if_icmp .ge 21, 3) := by decide +kernel
theorem dX1_fits_13 : decode cX1_fits 13 = .ok (.aload_n 0, 1) := by decide +kernel
theorem dX1_fits_14 : decode cX1_fits 14 = .ok (.getfield 32, 3) := by decide +kernel
theorem dX1_fits_17 : decode cX1_fits 17 = .ok (.iload_n 1, 1) := by decide +kernel
theorem dX1_fits_18 : decode cX1_fits 18 = .ok (.aload_n 0, 1) := by decide +kernel
theorem dX1_fits_19 : decode cX1_fits 19 = .ok (.getfield 20, 3) := by decide +kernel
theorem dX1_fits_22 : decode cX1_fits 22 = .ok (.iload_n 1, 1) := by decide +kernel
theorem dX1_fits_23 : decode cX1_fits 23 = .ok (.iaload, 1) := by decide +kernel
theorem dX1_fits_24 : decode cX1_fits 24 = .ok (.iastore, 1) := by decide +kernel
theorem dX1_fits_25 : decode cX1_fits 25 = .ok (.iinc 1 1, 3) := by decide +kernel
theorem dX1_fits_28 : decode cX1_fits 28 = .ok (.goto (-21), 3) := by decide +kernel
theorem dX1_fits_31 : decode cX1_fits 31 = .ok (.aload_n 0, 1) := by decide +kernel
theorem dX1_fits_32 : decode cX1_fits 32 = .ok (.invokevirtual 56, 3) := by decide +kernel
theorem dX1_fits_35 : decode cX1_fits 35 = .ok (.ireturn, 1) := by decide +kernel
theorem dX1_measure_0 : decode cX1_measure 0 = .ok (.iconst 0, 1) := by decide +kernel
theorem dX1_measure_1 : decode cX1_measure 1 = .ok (.istore_n 2, 1) := by decide +kernel
theorem dX1_measure_2 : decode cX1_measure 2 = .ok (.iload_n 2, 1) := by decide +kernel
theorem dX1_measure_3 : decode cX1_measure 3 = .ok (.bipush 64, 2) := by decide +kernel
theorem dX1_measure_5 : decode cX1_measure 5 = .ok (.if_icmp .ge 57, 3) := by decide +kernel
theorem dX1_measure_8 : decode cX1_measure 8 = .ok (.aload_n 0, 1) := by decide +kernel
theorem dX1_measure_9 : decode cX1_measure 9 = .ok (.getfield 29, 3) := by decide +kernel
theorem dX1_measure_12 : decode cX1_measure 12 = .ok (.iload_n 2, 1) := by decide +kernel
theorem dX1_measure_13 : decode cX1_measure 13 = .ok (.iconst 0, 1) := by decide +kernel
theorem dX1_measure_14 : decode cX1_measure 14 = .ok (.iastore, 1) := by decide +kernel
theorem dX1_measure_15 : decode cX1_measure 15 = .ok (.iload_n 1, 1) := by decide +kernel
theorem dX1_measure_16 : decode cX1_measure 16 = .ok (.istore_n 3, 1) := by decide +kernel
theorem dX1_measure_17 : decode cX1_measure 17 = .ok (.iload_n 3, 1) := by decide +kernel
theorem dX1_measure_18 : decode cX1_measure 18 = .ok (.bipush 24, 2) := by decide +kernel
theorem dX1_measure_20 : decode cX1_measure 20 = .ok (.if_icmp .ge 36, 3) := by decide +kernel
theorem dX1_measure_23 : decode cX1_measure 23 = .ok (.aload_n 0, 1) := by decide +kernel
theorem dX1_measure_24 : decode cX1_measure 24 = .ok (.getfield 29, 3) := by decide +kernel
theorem dX1_measure_27 : decode cX1_measure 27 = .ok (.iload_n 2, 1) := by decide +kernel
theorem dX1_measure_28 : decode cX1_measure 28 = .ok (.aload_n 0, 1) := by decide +kernel
theorem dX1_measure_29 : decode cX1_measure 29 = .ok (.getfield 29, 3) := by decide +kernel
theorem dX1_measure_32 : decode cX1_measure 32 = .ok (.iload_n 2, 1) := by decide +kernel
theorem dX1_measure_33 : decode cX1_measure 33 = .ok (.iaload, 1) := by decide +kernel
theorem dX1_measure_34 : decode cX1_measure 34 = .ok (.aload_n 0, 1) := by decide +kernel
theorem dX1_measure_35 : decode cX1_measure 35 = .ok (.iload_n 2, 1) := by decide +kernel
theorem dX1_measure_36 : decode cX1_measure 36 = .ok (.iload_n 3, 1) := by decide +kernel
theorem dX1_measure_37 : decode cX1_measure 37 = .ok (.invokevirtual 48, 3) := by decide +kernel
theorem dX1_measure_40 : decode cX1_measure 40 = .ok (.ifCond .eq 7, 3) := by decide +kernel
theorem dX1_measure_43 : decode cX1_measure 43 = .ok (.iconst 1, 1) := by decide +kernel
theorem dX1_measure_44 : decode cX1_measure 44 = .ok (.goto 4, 3) := by decide +kernel
theorem dX1_measure_47 : decode cX1_measure 47 = .ok (.iconst 0, 1) := by decide +kernel
theorem dX1_measure_48 : decode cX1_measure 48 = .ok (.iadd, 1) := by decide +kernel
theorem dX1_measure_49 : decode cX1_measure 49 = .ok (.iastore, 1) := by decide +kernel
theorem dX1_measure_50 : decode cX1_measure 50 = .ok (.iinc 3 1, 3) := by decide +kernel
theorem dX1_measure_53 : decode cX1_measure 53 = .ok (.goto (-36), 3) := by decide +kernel
theorem dX1_measure_56 : decode cX1_measure 56 = .ok (.iinc 2 1, 3) := by decide +kernel
theorem dX1_measure_59 : decode cX1_measure 59 = .ok (.goto (-57), 3) := by decide +kernel
theorem dX1_measure_62 : decode cX1_measure 62 = .ok (.return_, 1) := by decide +kernel
theorem dX1_covers_0 : decode cX1_covers 0 = .ok (.iconst 0, 1) := by decide +kernel
theorem dX1_covers_1 : decode cX1_covers 1 = .ok (.istore_n 3, 1) := by decide +kernel
theorem dX1_covers_2 : decode cX1_covers 2 = .ok (.iconst 0, 1) := by decide +kernel
theorem dX1_covers_3 : decode cX1_covers 3 = .ok (.istore 4, 2) := by decide +kernel
theorem dX1_covers_5 : decode cX1_covers 5 = .ok (.iload 4, 2) := by decide +kernel
theorem dX1_covers_7 : decode cX1_covers 7 = .ok (.bipush 6, 2) := by decide +kernel
theorem dX1_covers_9 : decode cX1_covers 9 = .ok (.if_icmp .ge 61, 3) := by decide +kernel
theorem dX1_covers_12 : decode cX1_covers 12 = .ok (.iload_n 3, 1) := by decide +kernel
theorem dX1_covers_13 : decode cX1_covers 13 = .ok (.ifCond .ne 45, 3) := by decide +kernel
theorem dX1_covers_16 : decode cX1_covers 16 = .ok (.iload_n 1, 1) := by decide +kernel
theorem dX1_covers_17 : decode cX1_covers 17 = .ok (.iload 4, 2) := by decide +kernel
theorem dX1_covers_19 : decode cX1_covers 19 = .ok (.ishr, 1) := by decide +kernel
theorem dX1_covers_20 : decode cX1_covers 20 = .ok (.iconst 1, 1) := by decide +kernel
theorem dX1_covers_21 : decode cX1_covers 21 = .ok (.iand, 1) := by decide +kernel
theorem dX1_covers_22 : decode cX1_covers 22 = .ok (.iconst 1, 1) := by decide +kernel
theorem dX1_covers_23 : decode cX1_covers 23 = .ok (.if_icmp .ne 39, 3) := by decide +kernel
theorem dX1_covers_26 : decode cX1_covers 26 = .ok (.aload_n 0, 1) := by decide +kernel
theorem dX1_covers_27 : decode cX1_covers 27 = .ok (.getfield 7, 3) := by decide +kernel
theorem dX1_covers_30 : decode cX1_covers 30 = .ok (.iload 4, 2) := by decide +kernel
theorem dX1_covers_32 : decode cX1_covers 32 = .ok (.baload, 1) := by decide +kernel
theorem dX1_covers_33 : decode cX1_covers 33 = .ok (.ifCond .eq 29, 3) := by decide +kernel
theorem dX1_covers_36 : decode cX1_covers 36 = .ok (.aload_n 0, 1) := by decide +kernel
theorem dX1_covers_37 : decode cX1_covers 37 = .ok (.getfield 13, 3) := by decide +kernel
theorem dX1_covers_40 : decode cX1_covers 40 = .ok (.iload 4, 2) := by decide +kernel
theorem dX1_covers_42 : decode cX1_covers 42 = .ok (.iaload, 1) := by decide +kernel
theorem dX1_covers_43 : decode cX1_covers 43 = .ok (.iload_n 2, 1) := by decide +kernel
theorem dX1_covers_44 : decode cX1_covers 44 = .ok (.if_icmp .gt 18, 3) := by decide +kernel
theorem dX1_covers_47 : decode cX1_covers 47 = .ok (.iload_n 2, 1) := by decide +kernel
theorem dX1_covers_48 : decode cX1_covers 48 = .ok (.aload_n 0, 1) := by decide +kernel
theorem dX1_covers_49 : decode cX1_covers 49 = .ok (.getfield 17, 3) := by decide +kernel
theorem dX1_covers_52 : decode cX1_covers 52 = .ok (.iload 4, 2) := by decide +kernel
theorem dX1_covers_54 : decode cX1_covers 54 = .ok (.iaload, 1) := by decide +kernel
theorem dX1_covers_55 : decode cX1_covers 55 = .ok (.if_icmp .ge 7, 3) := by decide +kernel
theorem dX1_covers_58 : decode cX1_covers 58 = .ok (.iconst 1, 1) := by decide +kernel
theorem dX1_covers_59 : decode cX1_covers 59 = .ok (.goto 4, 3) := by decide +kernel
theorem dX1_covers_62 : decode cX1_covers 62 = .ok (.iconst 0, 1) := by decide +kernel
theorem dX1_covers_63 : decode cX1_covers 63 = .ok (.istore_n 3, 1) := by decide +kernel
theorem dX1_covers_64 : decode cX1_covers 64 = .ok (.iinc 4 1, 3) := by decide +kernel
theorem dX1_covers_67 : decode cX1_covers 67 = .ok (.goto (-62), 3) := by decide +kernel
theorem dX1_covers_70 : decode cX1_covers 70 = .ok (.iload_n 3, 1) := by decide +kernel
theorem dX1_covers_71 : decode cX1_covers 71 = .ok (.ifCond .eq 18, 3) := by decide +kernel
theorem dX1_covers_74 : decode cX1_covers 74 = .ok (.aload_n 0, 1) := by decide +kernel
theorem dX1_covers_75 : decode cX1_covers 75 = .ok (.getfield 44, 3) := by decide +kernel
theorem dX1_covers_78 : decode cX1_covers 78 = .ok (.iload_n 2, 1) := by decide +kernel
theorem dX1_covers_79 : decode cX1_covers 79 = .ok (.ishr, 1) := by decide +kernel
theorem dX1_covers_80 : decode cX1_covers 80 = .ok (.iconst 1, 1) := by decide +kernel
theorem dX1_covers_81 : decode cX1_covers 81 = .ok (.iand, 1) := by decide +kernel
theorem dX1_covers_82 : decode cX1_covers 82 = .ok (.ifCond .ne 7, 3) := by decide +kernel
theorem dX1_covers_85 : decode cX1_covers 85 = .ok (.iconst 1, 1) := by decide +kernel
theorem dX1_covers_86 : decode cX1_covers 86 = .ok (.goto 4, 3) := by decide +kernel
theorem dX1_covers_89 : decode cX1_covers 89 = .ok (.iconst 0, 1) := by decide +kernel
theorem dX1_covers_90 : decode cX1_covers 90 = .ok (.ireturn, 1) := by decide +kernel
theorem dX1_can_0 : decode cX1_can 0 = .ok (.iconst 1, 1) := by decide +kernel
theorem dX1_can_1 : decode cX1_can 1 = .ok (.istore_n 1, 1) := by decide +kernel
theorem dX1_can_2 : decode cX1_can 2 = .ok (.iconst 1, 1) := by decide +kernel
theorem dX1_can_3 : decode cX1_can 3 = .ok (.istore_n 2, 1) := by decide +kernel
theorem dX1_can_4 : decode cX1_can 4 = .ok (.iload_n 2, 1) := by decide +kernel
theorem dX1_can_5 : decode cX1_can 5 = .ok (.bipush 64, 2) := by decide +kernel
theorem dX1_can_7 : decode cX1_can 7 = .ok (.if_icmp .ge 81, 3) := by decide +kernel
theorem dX1_can_10 : decode cX1_can 10 = .ok (.iload_n 1, 1) := by decide +kernel
theorem dX1_can_11 : decode cX1_can 11 = .ok (.ifCond .eq 77, 3) := by decide +kernel
theorem dX1_can_14 : decode cX1_can 14 = .ok (.iconst 0, 1) := by decide +kernel
theorem dX1_can_15 : decode cX1_can 15 = .ok (.istore_n 3, 1) := by decide +kernel
theorem dX1_can_16 : decode cX1_can 16 = .ok (.iconst 0, 1) := by decide +kernel
theorem dX1_can_17 : decode cX1_can 17 = .ok (.istore 4, 2) := by decide +kernel
theorem dX1_can_19 : decode cX1_can 19 = .ok (.iload 4, 2) := by decide +kernel
theorem dX1_can_21 : decode cX1_can 21 = .ok (.bipush 6, 2) := by decide +kernel
theorem dX1_can_23 : decode cX1_can 23 = .ok (.if_icmp .ge 43, 3) := by decide +kernel
theorem dX1_can_26 : decode cX1_can 26 = .ok (.iload_n 3, 1) := by decide +kernel
theorem dX1_can_27 : decode cX1_can 27 = .ok (.iload_n 2, 1) := by decide +kernel
theorem dX1_can_28 : decode cX1_can 28 = .ok (.iload 4, 2) := by decide +kernel
theorem dX1_can_30 : decode cX1_can 30 = .ok (.ishr, 1) := by decide +kernel
theorem dX1_can_31 : decode cX1_can 31 = .ok (.iconst 1, 1) := by decide +kernel
theorem dX1_can_32 : decode cX1_can 32 = .ok (.iand, 1) := by decide +kernel
theorem dX1_can_33 : decode cX1_can 33 = .ok (.iconst 1, 1) := by decide +kernel
theorem dX1_can_34 : decode cX1_can 34 = .ok (.if_icmp .ne 23, 3) := by decide +kernel
theorem dX1_can_37 : decode cX1_can 37 = .ok (.aload_n 0, 1) := by decide +kernel
theorem dX1_can_38 : decode cX1_can 38 = .ok (.getfield 7, 3) := by decide +kernel
theorem dX1_can_41 : decode cX1_can 41 = .ok (.iload 4, 2) := by decide +kernel
theorem dX1_can_43 : decode cX1_can 43 = .ok (.baload, 1) := by decide +kernel
theorem dX1_can_44 : decode cX1_can 44 = .ok (.ifCond .eq 13, 3) := by decide +kernel
theorem dX1_can_47 : decode cX1_can 47 = .ok (.aload_n 0, 1) := by decide +kernel
theorem dX1_can_48 : decode cX1_can 48 = .ok (.getfield 32, 3) := by decide +kernel
theorem dX1_can_51 : decode cX1_can 51 = .ok (.iload 4, 2) := by decide +kernel
theorem dX1_can_53 : decode cX1_can 53 = .ok (.iaload, 1) := by decide +kernel
theorem dX1_can_54 : decode cX1_can 54 = .ok (.goto 4, 3) := by decide +kernel
theorem dX1_can_57 : decode cX1_can 57 = .ok (.iconst 0, 1) := by decide +kernel
theorem dX1_can_58 : decode cX1_can 58 = .ok (.iadd, 1) := by decide +kernel
theorem dX1_can_59 : decode cX1_can 59 = .ok (.istore_n 3, 1) := by decide +kernel
theorem dX1_can_60 : decode cX1_can 60 = .ok (.iinc 4 1, 3) := by decide +kernel
theorem dX1_can_63 : decode cX1_can 63 = .ok (.goto (-44), 3) := by decide +kernel
theorem dX1_can_66 : decode cX1_can 66 = .ok (.iload_n 3, 1) := by decide +kernel
theorem dX1_can_67 : decode cX1_can 67 = .ok (.aload_n 0, 1) := by decide +kernel
theorem dX1_can_68 : decode cX1_can 68 = .ok (.getfield 29, 3) := by decide +kernel
theorem dX1_can_71 : decode cX1_can 71 = .ok (.iload_n 2, 1) := by decide +kernel
theorem dX1_can_72 : decode cX1_can 72 = .ok (.iaload, 1) := by decide +kernel
theorem dX1_can_73 : decode cX1_can 73 = .ok (.if_icmp .gt 7, 3) := by decide +kernel
theorem dX1_can_76 : decode cX1_can 76 = .ok (.iconst 1, 1) := by decide +kernel
theorem dX1_can_77 : decode cX1_can 77 = .ok (.goto 4, 3) := by decide +kernel
theorem dX1_can_80 : decode cX1_can 80 = .ok (.iconst 0, 1) := by decide +kernel
theorem dX1_can_81 : decode cX1_can 81 = .ok (.istore_n 1, 1) := by decide +kernel
theorem dX1_can_82 : decode cX1_can 82 = .ok (.iinc 2 1, 3) := by decide +kernel
theorem dX1_can_85 : decode cX1_can 85 = .ok (.goto (-81), 3) := by decide +kernel
theorem dX1_can_88 : decode cX1_can 88 = .ok (.iload_n 1, 1) := by decide +kernel
theorem dX1_can_89 : decode cX1_can 89 = .ok (.ireturn, 1) := by decide +kernel
theorem dX1_take_0 : decode cX1_take 0 = .ok (.aload_n 0, 1) := by decide +kernel
theorem dX1_take_1 : decode cX1_take 1 = .ok (.iload_n 1, 1) := by decide +kernel
theorem dX1_take_2 : decode cX1_take 2 = .ok (.invokevirtual 71, 3) := by decide +kernel
theorem dX1_take_5 : decode cX1_take 5 = .ok (.ifCond .ne 5, 3) := by decide +kernel
theorem dX1_take_8 : decode cX1_take 8 = .ok (.iconst 0, 1) := by decide +kernel
theorem dX1_take_9 : decode cX1_take 9 = .ok (.ireturn, 1) := by decide +kernel
theorem dX1_take_10 : decode cX1_take 10 = .ok (.aload_n 0, 1) := by decide +kernel
end
section
set_option maxRecDepth 100000
theorem dX1_take_11 : decode cX1_take 11 = .ok (.getfield 7, 3) := by decide +kernel
theorem dX1_take_14 : decode cX1_take 14 = .ok (.iload_n 1, 1) := by decide +kernel
theorem dX1_take_15 : decode cX1_take 15 = .ok (.iconst 0, 1) := by decide +kernel
theorem dX1_take_16 : decode cX1_take 16 = .ok (.bastore, 1) := by decide +kernel
theorem dX1_take_17 : decode cX1_take 17 = .ok (.iconst 1, 1) := by decide +kernel
theorem dX1_take_18 : decode cX1_take 18 = .ok (.ireturn, 1) := by decide +kernel
theorem dX1_is_0 : decode cX1_is 0 = .ok (.iload_n 1, 1) := by decide +kernel
theorem dX1_is_1 : decode cX1_is 1 = .ok (.ifCond .lt 22, 3) := by decide +kernel
theorem dX1_is_4 : decode cX1_is 4 = .ok (.iload_n 1, 1) := by decide +kernel
theorem dX1_is_5 : decode cX1_is 5 = .ok (.bipush 6, 2) := by decide +kernel
theorem dX1_is_7 : decode cX1_is 7 = .ok (.if_icmp .ge 16, 3) := by decide +kernel
theorem dX1_is_10 : decode cX1_is 10 = .ok (.aload_n 0, 1) := by decide +kernel
theorem dX1_is_11 : decode cX1_is 11 = .ok (.getfield 7, 3) := by decide +kernel
theorem dX1_is_14 : decode cX1_is 14 = .ok (.iload_n 1, 1) := by decide +kernel
theorem dX1_is_15 : decode cX1_is 15 = .ok (.baload, 1) := by decide +kernel
theorem dX1_is_16 : decode cX1_is 16 = .ok (.ifCond .eq 7, 3) := by decide +kernel
theorem dX1_is_19 : decode cX1_is 19 = .ok (.iconst 1, 1) := by decide +kernel
theorem dX1_is_20 : decode cX1_is 20 = .ok (.goto 4, 3) := by decide +kernel
theorem dX1_is_23 : decode cX1_is 23 = .ok (.iconst 0, 1) := by decide +kernel
theorem dX1_is_24 : decode cX1_is 24 = .ok (.ireturn, 1) := by decide +kernel
theorem dX1_block_0 : decode cX1_block 0 = .ok (.iload_n 1, 1) := by decide +kernel
theorem dX1_block_1 : decode cX1_block 1 = .ok (.ifCond .lt 9, 3) := by decide +kernel
theorem dX1_block_4 : decode cX1_block 4 = .ok (.iload_n 1, 1) := by decide +kernel
theorem dX1_block_5 : decode cX1_block 5 = .ok (.bipush 23, 2) := by decide +kernel
theorem dX1_block_7 : decode cX1_block 7 = .ok (.if_icmp .le 5, 3) := by decide +kernel
theorem dX1_block_10 : decode cX1_block 10 = .ok (.iconst (-1), 1) := by decide +kernel
theorem dX1_block_11 : decode cX1_block 11 = .ok (.ireturn, 1) := by decide +kernel
theorem dX1_block_12 : decode cX1_block 12 = .ok (.aload_n 0, 1) := by decide +kernel
theorem dX1_block_13 : decode cX1_block 13 = .ok (.getfield 44, 3) := by decide +kernel
theorem dX1_block_16 : decode cX1_block 16 = .ok (.istore_n 3, 1) := by decide +kernel
theorem dX1_block_17 : decode cX1_block 17 = .ok (.aload_n 0, 1) := by decide +kernel
theorem dX1_block_18 : decode cX1_block 18 = .ok (.iload_n 2, 1) := by decide +kernel
theorem dX1_block_19 : decode cX1_block 19 = .ok (.ifCond .eq 14, 3) := by decide +kernel
theorem dX1_block_22 : decode cX1_block 22 = .ok (.aload_n 0, 1) := by decide +kernel
theorem dX1_block_23 : decode cX1_block 23 = .ok (.getfield 44, 3) := by decide +kernel
theorem dX1_block_26 : decode cX1_block 26 = .ok (.iconst 1, 1) := by decide +kernel
theorem dX1_block_27 : decode cX1_block 27 = .ok (.iload_n 1, 1) := by decide +kernel
theorem dX1_block_28 : decode cX1_block 28 = .ok (.ishl, 1) := by decide +kernel
theorem dX1_block_29 : decode cX1_block 29 = .ok (.ior, 1) := by decide +kernel
theorem dX1_block_30 : decode cX1_block 30 = .ok (.goto 13, 3) := by decide +kernel
theorem dX1_block_33 : decode cX1_block 33 = .ok (.aload_n 0, 1) := by decide +kernel
theorem dX1_block_34 : decode cX1_block 34 = .ok (.getfield 44, 3) := by decide +kernel
theorem dX1_block_37 : decode cX1_block 37 = .ok (.iconst 1, 1) := by decide +kernel
theorem dX1_block_38 : decode cX1_block 38 = .ok (.iload_n 1, 1) := by decide +kernel
theorem dX1_block_39 : decode cX1_block 39 = .ok (.ishl, 1) := by decide +kernel
theorem dX1_block_40 : decode cX1_block 40 = .ok (.iconst (-1), 1) := by decide +kernel
theorem dX1_block_41 : decode cX1_block 41 = .ok (.ixor, 1) := by decide +kernel
theorem dX1_block_42 : decode cX1_block 42 = .ok (.iand, 1) := by decide +kernel
theorem dX1_block_43 : decode cX1_block 43 = .ok (.putfield 44, 3) := by decide +kernel
theorem dX1_block_46 : decode cX1_block 46 = .ok (.aload_n 0, 1) := by decide +kernel
theorem dX1_block_47 : decode cX1_block 47 = .ok (.invokevirtual 68, 3) := by decide +kernel
theorem dX1_block_50 : decode cX1_block 50 = .ok (.ifCond .eq 5, 3) := by decide +kernel
theorem dX1_block_53 : decode cX1_block 53 = .ok (.iload_n 1, 1) := by decide +kernel
theorem dX1_block_54 : decode cX1_block 54 = .ok (.ireturn, 1) := by decide +kernel
theorem dX1_block_55 : decode cX1_block 55 = .ok (.aload_n 0, 1) := by decide +kernel
theorem dX1_block_56 : decode cX1_block 56 = .ok (.iload_n 3, 1) := by decide +kernel
theorem dX1_block_57 : decode cX1_block 57 = .ok (.putfield 44, 3) := by decide +kernel
theorem dX1_block_60 : decode cX1_block 60 = .ok (.bipush (-3), 2) := by decide +kernel
theorem dX1_block_62 : decode cX1_block 62 = .ok (.ireturn, 1) := by decide +kernel
theorem dX1_change_0 : decode cX1_change 0 = .ok (.aload_n 0, 1) := by decide +kernel
theorem dX1_change_1 : decode cX1_change 1 = .ok (.iload_n 1, 1) := by decide +kernel
theorem dX1_change_2 : decode cX1_change 2 = .ok (.invokevirtual 71, 3) := by decide +kernel
theorem dX1_change_5 : decode cX1_change 5 = .ok (.ifCond .eq 11, 3) := by decide +kernel
theorem dX1_change_8 : decode cX1_change 8 = .ok (.aload_n 0, 1) := by decide +kernel
theorem dX1_change_9 : decode cX1_change 9 = .ok (.iload_n 2, 1) := by decide +kernel
theorem dX1_change_10 : decode cX1_change 10 = .ok (.invokevirtual 60, 3) := by decide +kernel
theorem dX1_change_13 : decode cX1_change 13 = .ok (.ifCond .ne 5, 3) := by decide +kernel
theorem dX1_change_16 : decode cX1_change 16 = .ok (.iconst (-1), 1) := by decide +kernel
theorem dX1_change_17 : decode cX1_change 17 = .ok (.ireturn, 1) := by decide +kernel
theorem dX1_change_18 : decode cX1_change 18 = .ok (.aload_n 0, 1) := by decide +kernel
theorem dX1_change_19 : decode cX1_change 19 = .ok (.getfield 20, 3) := by decide +kernel
theorem dX1_change_22 : decode cX1_change 22 = .ok (.iload_n 1, 1) := by decide +kernel
theorem dX1_change_23 : decode cX1_change 23 = .ok (.iaload, 1) := by decide +kernel
theorem dX1_change_24 : decode cX1_change 24 = .ok (.bipush 8, 2) := by decide +kernel
theorem dX1_change_26 : decode cX1_change 26 = .ok (.aload_n 0, 1) := by decide +kernel
theorem dX1_change_27 : decode cX1_change 27 = .ok (.getfield 23, 3) := by decide +kernel
theorem dX1_change_30 : decode cX1_change 30 = .ok (.iload_n 1, 1) := by decide +kernel
theorem dX1_change_31 : decode cX1_change 31 = .ok (.iaload, 1) := by decide +kernel
theorem dX1_change_32 : decode cX1_change 32 = .ok (.imul, 1) := by decide +kernel
theorem dX1_change_33 : decode cX1_change 33 = .ok (.iadd, 1) := by decide +kernel
theorem dX1_change_34 : decode cX1_change 34 = .ok (.bipush 64, 2) := by decide +kernel
theorem dX1_change_36 : decode cX1_change 36 = .ok (.aload_n 0, 1) := by decide +kernel
theorem dX1_change_37 : decode cX1_change 37 = .ok (.getfield 26, 3) := by decide +kernel
theorem dX1_change_40 : decode cX1_change 40 = .ok (.iload_n 1, 1) := by decide +kernel
theorem dX1_change_41 : decode cX1_change 41 = .ok (.iaload, 1) := by decide +kernel
theorem dX1_change_42 : decode cX1_change 42 = .ok (.imul, 1) := by decide +kernel
theorem dX1_change_43 : decode cX1_change 43 = .ok (.iadd, 1) := by decide +kernel
theorem dX1_change_44 : decode cX1_change 44 = .ok (.istore_n 3, 1) := by decide +kernel
theorem dX1_change_45 : decode cX1_change 45 = .ok (.aload_n 0, 1) := by decide +kernel
theorem dX1_change_46 : decode cX1_change 46 = .ok (.iload_n 1, 1) := by decide +kernel
theorem dX1_change_47 : decode cX1_change 47 = .ok (.iload_n 2, 1) := by decide +kernel
theorem dX1_change_48 : decode cX1_change 48 = .ok (.invokevirtual 64, 3) := by decide +kernel
theorem dX1_change_51 : decode cX1_change 51 = .ok (.aload_n 0, 1) := by decide +kernel
theorem dX1_change_52 : decode cX1_change 52 = .ok (.invokevirtual 68, 3) := by decide +kernel
theorem dX1_change_55 : decode cX1_change 55 = .ok (.ifCond .eq 5, 3) := by decide +kernel
theorem dX1_change_58 : decode cX1_change 58 = .ok (.iload_n 1, 1) := by decide +kernel
theorem dX1_change_59 : decode cX1_change 59 = .ok (.ireturn, 1) := by decide +kernel
theorem dX1_change_60 : decode cX1_change 60 = .ok (.aload_n 0, 1) := by decide +kernel
theorem dX1_change_61 : decode cX1_change 61 = .ok (.iload_n 1, 1) := by decide +kernel
theorem dX1_change_62 : decode cX1_change 62 = .ok (.iload_n 3, 1) := by decide +kernel
theorem dX1_change_63 : decode cX1_change 63 = .ok (.invokevirtual 64, 3) := by decide +kernel
theorem dX1_change_66 : decode cX1_change 66 = .ok (.bipush (-3), 2) := by decide +kernel
theorem dX1_change_68 : decode cX1_change 68 = .ok (.ireturn, 1) := by decide +kernel
theorem dX1_tasks_0 : decode cX1_tasks 0 = .ok (.iconst 0, 1) := by decide +kernel
theorem dX1_tasks_1 : decode cX1_tasks 1 = .ok (.istore_n 1, 1) := by decide +kernel
theorem dX1_tasks_2 : decode cX1_tasks 2 = .ok (.iconst 0, 1) := by decide +kernel
theorem dX1_tasks_3 : decode cX1_tasks 3 = .ok (.istore_n 2, 1) := by decide +kernel
theorem dX1_tasks_4 : decode cX1_tasks 4 = .ok (.iload_n 2, 1) := by decide +kernel
theorem dX1_tasks_5 : decode cX1_tasks 5 = .ok (.bipush 6, 2) := by decide +kernel
theorem dX1_tasks_7 : decode cX1_tasks 7 = .ok (.if_icmp .ge 28, 3) := by decide +kernel
theorem dX1_tasks_10 : decode cX1_tasks 10 = .ok (.iload_n 1, 1) := by decide +kernel
theorem dX1_tasks_11 : decode cX1_tasks 11 = .ok (.aload_n 0, 1) := by decide +kernel
theorem dX1_tasks_12 : decode cX1_tasks 12 = .ok (.getfield 7, 3) := by decide +kernel
theorem dX1_tasks_15 : decode cX1_tasks 15 = .ok (.iload_n 2, 1) := by decide +kernel
theorem dX1_tasks_16 : decode cX1_tasks 16 = .ok (.baload, 1) := by decide +kernel
theorem dX1_tasks_17 : decode cX1_tasks 17 = .ok (.ifCond .eq 9, 3) := by decide +kernel
theorem dX1_tasks_20 : decode cX1_tasks 20 = .ok (.iconst 1, 1) := by decide +kernel
theorem dX1_tasks_21 : decode cX1_tasks 21 = .ok (.iload_n 2, 1) := by decide +kernel
theorem dX1_tasks_22 : decode cX1_tasks 22 = .ok (.ishl, 1) := by decide +kernel
theorem dX1_tasks_23 : decode cX1_tasks 23 = .ok (.goto 4, 3) := by decide +kernel
theorem dX1_tasks_26 : decode cX1_tasks 26 = .ok (.iconst 0, 1) := by decide +kernel
theorem dX1_tasks_27 : decode cX1_tasks 27 = .ok (.ior, 1) := by decide +kernel
theorem dX1_tasks_28 : decode cX1_tasks 28 = .ok (.istore_n 1, 1) := by decide +kernel
theorem dX1_tasks_29 : decode cX1_tasks 29 = .ok (.iinc 2 1, 3) := by decide +kernel
theorem dX1_tasks_32 : decode cX1_tasks 32 = .ok (.goto (-28), 3) := by decide +kernel
theorem dX1_tasks_35 : decode cX1_tasks 35 = .ok (.iload_n 1, 1) := by decide +kernel
theorem dX1_tasks_36 : decode cX1_tasks 36 = .ok (.ireturn, 1) := by decide +kernel
theorem dX1_blocked_0 : decode cX1_blocked 0 = .ok (.aload_n 0, 1) := by decide +kernel
theorem dX1_blocked_1 : decode cX1_blocked 1 = .ok (.getfield 44, 3) := by decide +kernel
theorem dX1_blocked_4 : decode cX1_blocked 4 = .ok (.ireturn, 1) := by decide +kernel
theorem dX1_loss_0 : decode cX1_loss 0 = .ok (.aload_n 0, 1) := by decide +kernel
theorem dX1_loss_1 : decode cX1_loss 1 = .ok (.invokevirtual 98, 3) := by decide +kernel
theorem dX1_loss_4 : decode cX1_loss 4 = .ok (.ireturn, 1) := by decide +kernel
theorem dX1_tryAll_0 : decode cX1_tryAll 0 = .ok (.aload_n 0, 1) := by decide +kernel
theorem dX1_tryAll_1 : decode cX1_tryAll 1 = .ok (.invokevirtual 80, 3) := by decide +kernel
theorem dX1_tryAll_4 : decode cX1_tryAll 4 = .ok (.aload_n 0, 1) := by decide +kernel
theorem dX1_tryAll_5 : decode cX1_tryAll 5 = .ok (.iconst 0, 1) := by decide +kernel
theorem dX1_tryAll_6 : decode cX1_tryAll 6 = .ok (.invokevirtual 52, 3) := by decide +kernel
theorem dX1_tryAll_9 : decode cX1_tryAll 9 = .ok (.iconst 0, 1) := by decide +kernel
theorem dX1_tryAll_10 : decode cX1_tryAll 10 = .ok (.istore_n 1, 1) := by decide +kernel
theorem dX1_tryAll_11 : decode cX1_tryAll 11 = .ok (.iload_n 1, 1) := by decide +kernel
theorem dX1_tryAll_12 : decode cX1_tryAll 12 = .ok (.bipush 6, 2) := by decide +kernel
theorem dX1_tryAll_14 : decode cX1_tryAll 14 = .ok (.if_icmp .ge 21, 3) := by decide +kernel
theorem dX1_tryAll_17 : decode cX1_tryAll 17 = .ok (.aload_n 0, 1) := by decide +kernel
theorem dX1_tryAll_18 : decode cX1_tryAll 18 = .ok (.getfield 38, 3) := by decide +kernel
theorem dX1_tryAll_21 : decode cX1_tryAll 21 = .ok (.iload_n 1, 1) := by decide +kernel
theorem dX1_tryAll_22 : decode cX1_tryAll 22 = .ok (.aload_n 0, 1) := by decide +kernel
theorem dX1_tryAll_23 : decode cX1_tryAll 23 = .ok (.getfield 23, 3) := by decide +kernel
theorem dX1_tryAll_26 : decode cX1_tryAll 26 = .ok (.iload_n 1, 1) := by decide +kernel
theorem dX1_tryAll_27 : decode cX1_tryAll 27 = .ok (.iaload, 1) := by decide +kernel
theorem dX1_tryAll_28 : decode cX1_tryAll 28 = .ok (.iastore, 1) := by decide +kernel
theorem dX1_tryAll_29 : decode cX1_tryAll 29 = .ok (.iinc 1 1, 3) := by decide +kernel
theorem dX1_tryAll_32 : decode cX1_tryAll 32 = .ok (.goto (-21), 3) := by decide +kernel
theorem dX1_tryAll_35 : decode cX1_tryAll 35 = .ok (.ldc 83, 2) := by decide +kernel
theorem dX1_tryAll_37 : decode cX1_tryAll 37 = .ok (.istore_n 1, 1) := by decide +kernel
theorem dX1_tryAll_38 : decode cX1_tryAll 38 = .ok (.iconst 1, 1) := by decide +kernel
theorem dX1_tryAll_39 : decode cX1_tryAll 39 = .ok (.istore_n 2, 1) := by decide +kernel
theorem dX1_tryAll_40 : decode cX1_tryAll 40 = .ok (.iconst 0, 1) := by decide +kernel
theorem dX1_tryAll_41 : decode cX1_tryAll 41 = .ok (.istore_n 3, 1) := by decide +kernel
theorem dX1_tryAll_42 : decode cX1_tryAll 42 = .ok (.iload_n 3, 1) := by decide +kernel
theorem dX1_tryAll_43 : decode cX1_tryAll 43 = .ok (.ldc 84, 2) := by decide +kernel
theorem dX1_tryAll_45 : decode cX1_tryAll 45 = .ok (.if_icmp .ge 44, 3) := by decide +kernel
theorem dX1_tryAll_48 : decode cX1_tryAll 48 = .ok (.iload_n 2, 1) := by decide +kernel
theorem dX1_tryAll_49 : decode cX1_tryAll 49 = .ok (.ifCond .eq 40, 3) := by decide +kernel
theorem dX1_tryAll_52 : decode cX1_tryAll 52 = .ok (.aload_n 0, 1) := by decide +kernel
theorem dX1_tryAll_53 : decode cX1_tryAll 53 = .ok (.invokevirtual 85, 3) := by decide +kernel
theorem dX1_tryAll_56 : decode cX1_tryAll 56 = .ok (.istore 4, 2) := by decide +kernel
theorem dX1_tryAll_58 : decode cX1_tryAll 58 = .ok (.iload 4, 2) := by decide +kernel
theorem dX1_tryAll_60 : decode cX1_tryAll 60 = .ok (.iload_n 1, 1) := by decide +kernel
theorem dX1_tryAll_61 : decode cX1_tryAll 61 = .ok (.if_icmp .ge 17, 3) := by decide +kernel
theorem dX1_tryAll_64 : decode cX1_tryAll 64 = .ok (.aload_n 0, 1) := by decide +kernel
theorem dX1_tryAll_65 : decode cX1_tryAll 65 = .ok (.invokevirtual 89, 3) := by decide +kernel
theorem dX1_tryAll_68 : decode cX1_tryAll 68 = .ok (.ifCond .eq 10, 3) := by decide +kernel
theorem dX1_tryAll_71 : decode cX1_tryAll 71 = .ok (.iload 4, 2) := by decide +kernel
theorem dX1_tryAll_73 : decode cX1_tryAll 73 = .ok (.istore_n 1, 1) := by decide +kernel
theorem dX1_tryAll_74 : decode cX1_tryAll 74 = .ok (.aload_n 0, 1) := by decide +kernel
theorem dX1_tryAll_75 : decode cX1_tryAll 75 = .ok (.invokevirtual 92, 3) := by decide +kernel
theorem dX1_tryAll_78 : decode cX1_tryAll 78 = .ok (.aload_n 0, 1) := by decide +kernel
theorem dX1_tryAll_79 : decode cX1_tryAll 79 = .ok (.invokevirtual 95, 3) := by decide +kernel
theorem dX1_tryAll_82 : decode cX1_tryAll 82 = .ok (.istore_n 2, 1) := by decide +kernel
theorem dX1_tryAll_83 : decode cX1_tryAll 83 = .ok (.iinc 3 1, 3) := by decide +kernel
theorem dX1_tryAll_86 : decode cX1_tryAll 86 = .ok (.goto (-44), 3) := by decide +kernel
theorem dX1_tryAll_89 : decode cX1_tryAll 89 = .ok (.iload_n 1, 1) := by decide +kernel
theorem dX1_tryAll_90 : decode cX1_tryAll 90 = .ok (.ireturn, 1) := by decide +kernel
theorem dX1_sort_0 : decode cX1_sort 0 = .ok (.aload_n 0, 1) := by decide +kernel
theorem dX1_sort_1 : decode cX1_sort 1 = .ok (.iconst 0, 1) := by decide +kernel
theorem dX1_sort_2 : decode cX1_sort 2 = .ok (.putfield 74, 3) := by decide +kernel
theorem dX1_sort_5 : decode cX1_sort 5 = .ok (.iconst 0, 1) := by decide +kernel
theorem dX1_sort_6 : decode cX1_sort 6 = .ok (.istore_n 1, 1) := by decide +kernel
theorem dX1_sort_7 : decode cX1_sort 7 = .ok (.iload_n 1, 1) := by decide +kernel
theorem dX1_sort_8 : decode cX1_sort 8 = .ok (.bipush 6, 2) := by decide +kernel
theorem dX1_sort_10 : decode cX1_sort 10 = .ok (.if_icmp .ge 82, 3) := by decide +kernel
theorem dX1_sort_13 : decode cX1_sort 13 = .ok (.iconst 0, 1) := by decide +kernel
theorem dX1_sort_14 : decode cX1_sort 14 = .ok (.istore_n 2, 1) := by decide +kernel
theorem dX1_sort_15 : decode cX1_sort 15 = .ok (.iconst 0, 1) := by decide +kernel
theorem dX1_sort_16 : decode cX1_sort 16 = .ok (.istore_n 3, 1) := by decide +kernel
theorem dX1_sort_17 : decode cX1_sort 17 = .ok (.iload_n 3, 1) := by decide +kernel
theorem dX1_sort_18 : decode cX1_sort 18 = .ok (.bipush 6, 2) := by decide +kernel
theorem dX1_sort_20 : decode cX1_sort 20 = .ok (.if_icmp .ge 40, 3) := by decide +kernel
theorem dX1_sort_23 : decode cX1_sort 23 = .ok (.iload_n 2, 1) := by decide +kernel
theorem dX1_sort_24 : decode cX1_sort 24 = .ok (.aload_n 0, 1) := by decide +kernel
theorem dX1_sort_25 : decode cX1_sort 25 = .ok (.getfield 7, 3) := by decide +kernel
theorem dX1_sort_28 : decode cX1_sort 28 = .ok (.iload_n 3, 1) := by decide +kernel
theorem dX1_sort_29 : decode cX1_sort 29 = .ok (.baload, 1) := by decide +kernel
theorem dX1_sort_30 : decode cX1_sort 30 = .ok (.ifCond .eq 21, 3) := by decide +kernel
theorem dX1_sort_33 : decode cX1_sort 33 = .ok (.iload_n 3, 1) := by decide +kernel
theorem dX1_sort_34 : decode cX1_sort 34 = .ok (.iload_n 1, 1) := by decide +kernel
theorem dX1_sort_35 : decode cX1_sort 35 = .ok (.if_icmp .eq 16, 3) := by decide +kernel
theorem dX1_sort_38 : decode cX1_sort 38 = .ok (.aload_n 0, 1) := by decide +kernel
theorem dX1_sort_39 : decode cX1_sort 39 = .ok (.iload_n 3, 1) := by decide +kernel
theorem dX1_sort_40 : decode cX1_sort 40 = .ok (.iload_n 1, 1) := by decide +kernel
theorem dX1_sort_41 : decode cX1_sort 41 = .ok (.invokevirtual 77, 3) := by decide +kernel
theorem dX1_sort_44 : decode cX1_sort 44 = .ok (.ifCond .eq 7, 3) := by decide +kernel
theorem dX1_sort_47 : decode cX1_sort 47 = .ok (.iconst 1, 1) := by decide +kernel
theorem dX1_sort_48 : decode cX1_sort 48 = .ok (.goto 4, 3) := by decide +kernel
theorem dX1_sort_51 : decode cX1_sort 51 = .ok (.iconst 0, 1) := by decide +kernel
theorem dX1_sort_52 : decode cX1_sort 52 = .ok (.iadd, 1) := by decide +kernel
theorem dX1_sort_53 : decode cX1_sort 53 = .ok (.istore_n 2, 1) := by decide +kernel
theorem dX1_sort_54 : decode cX1_sort 54 = .ok (.iinc 3 1, 3) := by decide +kernel
theorem dX1_sort_57 : decode cX1_sort 57 = .ok (.goto (-40), 3) := by decide +kernel
theorem dX1_sort_60 : decode cX1_sort 60 = .ok (.aload_n 0, 1) := by decide +kernel
theorem dX1_sort_61 : decode cX1_sort 61 = .ok (.getfield 7, 3) := by decide +kernel
theorem dX1_sort_64 : decode cX1_sort 64 = .ok (.iload_n 1, 1) := by decide +kernel
theorem dX1_sort_65 : decode cX1_sort 65 = .ok (.baload, 1) := by decide +kernel
theorem dX1_sort_66 : decode cX1_sort 66 = .ok (.ifCond .eq 20, 3) := by decide +kernel
theorem dX1_sort_69 : decode cX1_sort 69 = .ok (.aload_n 0, 1) := by decide +kernel
theorem dX1_sort_70 : decode cX1_sort 70 = .ok (.getfield 35, 3) := by decide +kernel
theorem dX1_sort_73 : decode cX1_sort 73 = .ok (.iload_n 2, 1) := by decide +kernel
theorem dX1_sort_74 : decode cX1_sort 74 = .ok (.iload_n 1, 1) := by decide +kernel
theorem dX1_sort_75 : decode cX1_sort 75 = .ok (.iastore, 1) := by decide +kernel
theorem dX1_sort_76 : decode cX1_sort 76 = .ok (.aload_n 0, 1) := by decide +kernel
theorem dX1_sort_77 : decode cX1_sort 77 = .ok (.dup, 1) := by decide +kernel
theorem dX1_sort_78 : decode cX1_sort 78 = .ok (.getfield 74, 3) := by decide +kernel
theorem dX1_sort_81 : decode cX1_sort 81 = .ok (.iconst 1, 1) := by decide +kernel
theorem dX1_sort_82 : decode cX1_sort 82 = .ok (.iadd, 1) := by decide +kernel
theorem dX1_sort_83 : decode cX1_sort 83 = .ok (.putfield 74, 3) := by decide +kernel
theorem dX1_sort_86 : decode cX1_sort 86 = .ok (.iinc 1 1, 3) := by decide +kernel
theorem dX1_sort_89 : decode cX1_sort 89 = .ok (.goto (-82), 3) := by decide +kernel
theorem dX1_sort_92 : decode cX1_sort 92 = .ok (.return_, 1) := by decide +kernel
theorem dX1_before_0 : decode cX1_before 0 = .ok (.aload_n 0, 1) := by decide +kernel
theorem dX1_before_1 : decode cX1_before 1 = .ok (.getfield 26, 3) := by decide +kernel
theorem dX1_before_4 : decode cX1_before 4 = .ok (.iload_n 1, 1) := by decide +kernel
theorem dX1_before_5 : decode cX1_before 5 = .ok (.iaload, 1) := by decide +kernel
theorem dX1_before_6 : decode cX1_before 6 = .ok (.aload_n 0, 1) := by decide +kernel
theorem dX1_before_7 : decode cX1_before 7 = .ok (.getfield 26, 3) := by decide +kernel
theorem dX1_before_10 : decode cX1_before 10 = .ok (.iload_n 2, 1) := by decide +kernel
theorem dX1_before_11 : decode cX1_before 11 = .ok (.iaload, 1) := by decide +kernel
theorem dX1_before_12 : decode cX1_before 12 = .ok (.if_icmp .gt 23, 3) := by decide +kernel
theorem dX1_before_15 : decode cX1_before 15 = .ok (.aload_n 0, 1) := by decide +kernel
theorem dX1_before_16 : decode cX1_before 16 = .ok (.getfield 26, 3) := by decide +kernel
theorem dX1_before_19 : decode cX1_before 19 = .ok (.iload_n 1, 1) := by decide +kernel
theorem dX1_before_20 : decode cX1_before 20 = .ok (.iaload, 1) := by decide +kernel
theorem dX1_before_21 : decode cX1_before 21 = .ok (.aload_n 0, 1) := by decide +kernel
theorem dX1_before_22 : decode cX1_before 22 = .ok (.getfield 26, 3) := by decide +kernel
theorem dX1_before_25 : decode cX1_before 25 = .ok (.iload_n 2, 1) := by decide +kernel
theorem dX1_before_26 : decode cX1_before 26 = .ok (.iaload, 1) := by decide +kernel
theorem dX1_before_27 : decode cX1_before 27 = .ok (.if_icmp .ne 12, 3) := by decide +kernel
theorem dX1_before_30 : decode cX1_before 30 = .ok (.iload_n 1, 1) := by decide +kernel
theorem dX1_before_31 : decode cX1_before 31 = .ok (.iload_n 2, 1) := by decide +kernel
theorem dX1_before_32 : decode cX1_before 32 = .ok (.if_icmp .ge 7, 3) := by decide +kernel
theorem dX1_before_35 : decode cX1_before 35 = .ok (.iconst 1, 1) := by decide +kernel
theorem dX1_before_36 : decode cX1_before 36 = .ok (.goto 4, 3) := by decide +kernel
theorem dX1_before_39 : decode cX1_before 39 = .ok (.iconst 0, 1) := by decide +kernel
theorem dX1_before_40 : decode cX1_before 40 = .ok (.ireturn, 1) := by decide +kernel
theorem dX1_lost_0 : decode cX1_lost 0 = .ok (.iconst 0, 1) := by decide +kernel
theorem dX1_lost_1 : decode cX1_lost 1 = .ok (.istore_n 1, 1) := by decide +kernel
theorem dX1_lost_2 : decode cX1_lost 2 = .ok (.iconst 0, 1) := by decide +kernel
theorem dX1_lost_3 : decode cX1_lost 3 = .ok (.istore_n 2, 1) := by decide +kernel
theorem dX1_lost_4 : decode cX1_lost 4 = .ok (.iload_n 2, 1) := by decide +kernel
theorem dX1_lost_5 : decode cX1_lost 5 = .ok (.bipush 6, 2) := by decide +kernel
theorem dX1_lost_7 : decode cX1_lost 7 = .ok (.if_icmp .ge 45, 3) := by decide +kernel
theorem dX1_lost_10 : decode cX1_lost 10 = .ok (.iload_n 1, 1) := by decide +kernel
theorem dX1_lost_11 : decode cX1_lost 11 = .ok (.aload_n 0, 1) := by decide +kernel
theorem dX1_lost_12 : decode cX1_lost 12 = .ok (.getfield 7, 3) := by decide +kernel
theorem dX1_lost_15 : decode cX1_lost 15 = .ok (.iload_n 2, 1) := by decide +kernel
theorem dX1_lost_16 : decode cX1_lost 16 = .ok (.baload, 1) := by decide +kernel
theorem dX1_lost_17 : decode cX1_lost 17 = .ok (.ifCond .eq 26, 3) := by decide +kernel
theorem dX1_lost_20 : decode cX1_lost 20 = .ok (.aload_n 0, 1) := by decide +kernel
theorem dX1_lost_21 : decode cX1_lost 21 = .ok (.getfield 26, 3) := by decide +kernel
theorem dX1_lost_24 : decode cX1_lost 24 = .ok (.iload_n 2, 1) := by decide +kernel
theorem dX1_lost_25 : decode cX1_lost 25 = .ok (.iaload, 1) := by decide +kernel
theorem dX1_lost_26 : decode cX1_lost 26 = .ok (.aload_n 0, 1) := by decide +kernel
theorem dX1_lost_27 : decode cX1_lost 27 = .ok (.getfield 23, 3) := by decide +kernel
theorem dX1_lost_30 : decode cX1_lost 30 = .ok (.iload_n 2, 1) := by decide +kernel
theorem dX1_lost_31 : decode cX1_lost 31 = .ok (.iaload, 1) := by decide +kernel
theorem dX1_lost_32 : decode cX1_lost 32 = .ok (.aload_n 0, 1) := by decide +kernel
theorem dX1_lost_33 : decode cX1_lost 33 = .ok (.getfield 38, 3) := by decide +kernel
theorem dX1_lost_36 : decode cX1_lost 36 = .ok (.iload_n 2, 1) := by decide +kernel
theorem dX1_lost_37 : decode cX1_lost 37 = .ok (.iaload, 1) := by decide +kernel
theorem dX1_lost_38 : decode cX1_lost 38 = .ok (.isub, 1) := by decide +kernel
theorem dX1_lost_39 : decode cX1_lost 39 = .ok (.imul, 1) := by decide +kernel
theorem dX1_lost_40 : decode cX1_lost 40 = .ok (.goto 4, 3) := by decide +kernel
theorem dX1_lost_43 : decode cX1_lost 43 = .ok (.iconst 0, 1) := by decide +kernel
theorem dX1_lost_44 : decode cX1_lost 44 = .ok (.iadd, 1) := by decide +kernel
theorem dX1_lost_45 : decode cX1_lost 45 = .ok (.istore_n 1, 1) := by decide +kernel
theorem dX1_lost_46 : decode cX1_lost 46 = .ok (.iinc 2 1, 3) := by decide +kernel
theorem dX1_lost_49 : decode cX1_lost 49 = .ok (.goto (-45), 3) := by decide +kernel
theorem dX1_lost_52 : decode cX1_lost 52 = .ok (.iload_n 1, 1) := by decide +kernel
theorem dX1_lost_53 : decode cX1_lost 53 = .ok (.ireturn, 1) := by decide +kernel
theorem dX1_possible_0 : decode cX1_possible 0 = .ok (.iconst 0, 1) := by decide +kernel
theorem dX1_possible_1 : decode cX1_possible 1 = .ok (.istore_n 1, 1) := by decide +kernel
theorem dX1_possible_2 : decode cX1_possible 2 = .ok (.iload_n 1, 1) := by decide +kernel
theorem dX1_possible_3 : decode cX1_possible 3 = .ok (.bipush 6, 2) := by decide +kernel
theorem dX1_possible_5 : decode cX1_possible 5 = .ok (.if_icmp .ge 28, 3) := by decide +kernel
theorem dX1_possible_8 : decode cX1_possible 8 = .ok (.aload_n 0, 1) := by decide +kernel
theorem dX1_possible_9 : decode cX1_possible 9 = .ok (.getfield 32, 3) := by decide +kernel
theorem dX1_possible_12 : decode cX1_possible 12 = .ok (.iload_n 1, 1) := by decide +kernel
theorem dX1_possible_13 : decode cX1_possible 13 = .ok (.aload_n 0, 1) := by decide +kernel
theorem dX1_possible_14 : decode cX1_possible 14 = .ok (.getfield 20, 3) := by decide +kernel
theorem dX1_possible_17 : decode cX1_possible 17 = .ok (.iload_n 1, 1) := by decide +kernel
theorem dX1_possible_18 : decode cX1_possible 18 = .ok (.iaload, 1) := by decide +kernel
theorem dX1_possible_19 : decode cX1_possible 19 = .ok (.aload_n 0, 1) := by decide +kernel
theorem dX1_possible_20 : decode cX1_possible 20 = .ok (.getfield 38, 3) := by decide +kernel
theorem dX1_possible_23 : decode cX1_possible 23 = .ok (.iload_n 1, 1) := by decide +kernel
theorem dX1_possible_24 : decode cX1_possible 24 = .ok (.iaload, 1) := by decide +kernel
theorem dX1_possible_25 : decode cX1_possible 25 = .ok (.iadd, 1) := by decide +kernel
theorem dX1_possible_26 : decode cX1_possible 26 = .ok (.iastore, 1) := by decide +kernel
theorem dX1_possible_27 : decode cX1_possible 27 = .ok (.iinc 1 1, 3) := by decide +kernel
theorem dX1_possible_30 : decode cX1_possible 30 = .ok (.goto (-28), 3) := by decide +kernel
theorem dX1_possible_33 : decode cX1_possible 33 = .ok (.aload_n 0, 1) := by decide +kernel
theorem dX1_possible_34 : decode cX1_possible 34 = .ok (.invokevirtual 56, 3) := by decide +kernel
theorem dX1_possible_37 : decode cX1_possible 37 = .ok (.ireturn, 1) := by decide +kernel
theorem dX1_keepBest_0 : decode cX1_keepBest 0 = .ok (.iconst 0, 1) := by decide +kernel
theorem dX1_keepBest_1 : decode cX1_keepBest 1 = .ok (.istore_n 1, 1) := by decide +kernel
theorem dX1_keepBest_2 : decode cX1_keepBest 2 = .ok (.iload_n 1, 1) := by decide +kernel
theorem dX1_keepBest_3 : decode cX1_keepBest 3 = .ok (.bipush 6, 2) := by decide +kernel
theorem dX1_keepBest_5 : decode cX1_keepBest 5 = .ok (.if_icmp .ge 21, 3) := by decide +kernel
theorem dX1_keepBest_8 : decode cX1_keepBest 8 = .ok (.aload_n 0, 1) := by decide +kernel
theorem dX1_keepBest_9 : decode cX1_keepBest 9 = .ok (.getfield 41, 3) := by decide +kernel
theorem dX1_keepBest_12 : decode cX1_keepBest 12 = .ok (.iload_n 1, 1) := by decide +kernel
theorem dX1_keepBest_13 : decode cX1_keepBest 13 = .ok (.aload_n 0, 1) := by decide +kernel
end
section
set_option maxRecDepth 100000
theorem dX1_keepBest_14 : decode cX1_keepBest 14 = .ok (.getfield 38, 3) := by decide +kernel
theorem dX1_keepBest_17 : decode cX1_keepBest 17 = .ok (.iload_n 1, 1) := by decide +kernel
theorem dX1_keepBest_18 : decode cX1_keepBest 18 = .ok (.iaload, 1) := by decide +kernel
theorem dX1_keepBest_19 : decode cX1_keepBest 19 = .ok (.iastore, 1) := by decide +kernel
theorem dX1_keepBest_20 : decode cX1_keepBest 20 = .ok (.iinc 1 1, 3) := by decide +kernel
theorem dX1_keepBest_23 : decode cX1_keepBest 23 = .ok (.goto (-21), 3) := by decide +kernel
theorem dX1_keepBest_26 : decode cX1_keepBest 26 = .ok (.return_, 1) := by decide +kernel
theorem dX1_next_0 : decode cX1_next 0 = .ok (.aload_n 0, 1) := by decide +kernel
theorem dX1_next_1 : decode cX1_next 1 = .ok (.getfield 74, 3) := by decide +kernel
theorem dX1_next_4 : decode cX1_next 4 = .ok (.iconst 1, 1) := by decide +kernel
theorem dX1_next_5 : decode cX1_next 5 = .ok (.isub, 1) := by decide +kernel
theorem dX1_next_6 : decode cX1_next 6 = .ok (.istore_n 1, 1) := by decide +kernel
theorem dX1_next_7 : decode cX1_next 7 = .ok (.iload_n 1, 1) := by decide +kernel
theorem dX1_next_8 : decode cX1_next 8 = .ok (.ifCond .lt 49, 3) := by decide +kernel
theorem dX1_next_11 : decode cX1_next 11 = .ok (.aload_n 0, 1) := by decide +kernel
theorem dX1_next_12 : decode cX1_next 12 = .ok (.getfield 35, 3) := by decide +kernel
theorem dX1_next_15 : decode cX1_next 15 = .ok (.iload_n 1, 1) := by decide +kernel
theorem dX1_next_16 : decode cX1_next 16 = .ok (.iaload, 1) := by decide +kernel
theorem dX1_next_17 : decode cX1_next 17 = .ok (.istore_n 2, 1) := by decide +kernel
theorem dX1_next_18 : decode cX1_next 18 = .ok (.aload_n 0, 1) := by decide +kernel
theorem dX1_next_19 : decode cX1_next 19 = .ok (.getfield 38, 3) := by decide +kernel
theorem dX1_next_22 : decode cX1_next 22 = .ok (.iload_n 2, 1) := by decide +kernel
theorem dX1_next_23 : decode cX1_next 23 = .ok (.iaload, 1) := by decide +kernel
theorem dX1_next_24 : decode cX1_next 24 = .ok (.ifCond .le 15, 3) := by decide +kernel
theorem dX1_next_27 : decode cX1_next 27 = .ok (.aload_n 0, 1) := by decide +kernel
theorem dX1_next_28 : decode cX1_next 28 = .ok (.getfield 38, 3) := by decide +kernel
theorem dX1_next_31 : decode cX1_next 31 = .ok (.iload_n 2, 1) := by decide +kernel
theorem dX1_next_32 : decode cX1_next 32 = .ok (.dup2, 1) := by decide +kernel
theorem dX1_next_33 : decode cX1_next 33 = .ok (.iaload, 1) := by decide +kernel
theorem dX1_next_34 : decode cX1_next 34 = .ok (.iconst 1, 1) := by decide +kernel
theorem dX1_next_35 : decode cX1_next 35 = .ok (.isub, 1) := by decide +kernel
theorem dX1_next_36 : decode cX1_next 36 = .ok (.iastore, 1) := by decide +kernel
theorem dX1_next_37 : decode cX1_next 37 = .ok (.iconst 1, 1) := by decide +kernel
theorem dX1_next_38 : decode cX1_next 38 = .ok (.ireturn, 1) := by decide +kernel
theorem dX1_next_39 : decode cX1_next 39 = .ok (.aload_n 0, 1) := by decide +kernel
theorem dX1_next_40 : decode cX1_next 40 = .ok (.getfield 38, 3) := by decide +kernel
theorem dX1_next_43 : decode cX1_next 43 = .ok (.iload_n 2, 1) := by decide +kernel
theorem dX1_next_44 : decode cX1_next 44 = .ok (.aload_n 0, 1) := by decide +kernel
theorem dX1_next_45 : decode cX1_next 45 = .ok (.getfield 23, 3) := by decide +kernel
theorem dX1_next_48 : decode cX1_next 48 = .ok (.iload_n 2, 1) := by decide +kernel
theorem dX1_next_49 : decode cX1_next 49 = .ok (.iaload, 1) := by decide +kernel
theorem dX1_next_50 : decode cX1_next 50 = .ok (.iastore, 1) := by decide +kernel
theorem dX1_next_51 : decode cX1_next 51 = .ok (.iinc 1 (-1), 3) := by decide +kernel
theorem dX1_next_54 : decode cX1_next 54 = .ok (.goto (-47), 3) := by decide +kernel
theorem dX1_next_57 : decode cX1_next 57 = .ok (.iconst 0, 1) := by decide +kernel
theorem dX1_next_58 : decode cX1_next 58 = .ok (.ireturn, 1) := by decide +kernel
theorem dX1_kept_0 : decode cX1_kept 0 = .ok (.aload_n 0, 1) := by decide +kernel
theorem dX1_kept_1 : decode cX1_kept 1 = .ok (.invokevirtual 98, 3) := by decide +kernel
theorem dX1_kept_4 : decode cX1_kept 4 = .ok (.pop, 1) := by decide +kernel
theorem dX1_kept_5 : decode cX1_kept 5 = .ok (.aload_n 0, 1) := by decide +kernel
theorem dX1_kept_6 : decode cX1_kept 6 = .ok (.iload_n 1, 1) := by decide +kernel
theorem dX1_kept_7 : decode cX1_kept 7 = .ok (.invokevirtual 71, 3) := by decide +kernel
theorem dX1_kept_10 : decode cX1_kept 10 = .ok (.ifCond .eq 12, 3) := by decide +kernel
theorem dX1_kept_13 : decode cX1_kept 13 = .ok (.aload_n 0, 1) := by decide +kernel
theorem dX1_kept_14 : decode cX1_kept 14 = .ok (.getfield 41, 3) := by decide +kernel
theorem dX1_kept_17 : decode cX1_kept 17 = .ok (.iload_n 1, 1) := by decide +kernel
theorem dX1_kept_18 : decode cX1_kept 18 = .ok (.iaload, 1) := by decide +kernel
theorem dX1_kept_19 : decode cX1_kept 19 = .ok (.goto 4, 3) := by decide +kernel
theorem dX1_kept_22 : decode cX1_kept 22 = .ok (.iconst (-1), 1) := by decide +kernel
theorem dX1_kept_23 : decode cX1_kept 23 = .ok (.ireturn, 1) := by decide +kernel
theorem dX1_at_0 : decode cX1_at 0 = .ok (.aload_n 0, 1) := by decide +kernel
theorem dX1_at_1 : decode cX1_at 1 = .ok (.invokevirtual 98, 3) := by decide +kernel
theorem dX1_at_4 : decode cX1_at 4 = .ok (.pop, 1) := by decide +kernel
theorem dX1_at_5 : decode cX1_at 5 = .ok (.iconst 0, 1) := by decide +kernel
theorem dX1_at_6 : decode cX1_at 6 = .ok (.istore_n 2, 1) := by decide +kernel
theorem dX1_at_7 : decode cX1_at 7 = .ok (.iload_n 2, 1) := by decide +kernel
theorem dX1_at_8 : decode cX1_at 8 = .ok (.bipush 6, 2) := by decide +kernel
theorem dX1_at_10 : decode cX1_at 10 = .ok (.if_icmp .ge 41, 3) := by decide +kernel
theorem dX1_at_13 : decode cX1_at 13 = .ok (.aload_n 0, 1) := by decide +kernel
theorem dX1_at_14 : decode cX1_at 14 = .ok (.getfield 32, 3) := by decide +kernel
theorem dX1_at_17 : decode cX1_at 17 = .ok (.iload_n 2, 1) := by decide +kernel
theorem dX1_at_18 : decode cX1_at 18 = .ok (.aload_n 0, 1) := by decide +kernel
theorem dX1_at_19 : decode cX1_at 19 = .ok (.getfield 7, 3) := by decide +kernel
theorem dX1_at_22 : decode cX1_at 22 = .ok (.iload_n 2, 1) := by decide +kernel
theorem dX1_at_23 : decode cX1_at 23 = .ok (.baload, 1) := by decide +kernel
theorem dX1_at_24 : decode cX1_at 24 = .ok (.ifCond .eq 19, 3) := by decide +kernel
theorem dX1_at_27 : decode cX1_at 27 = .ok (.aload_n 0, 1) := by decide +kernel
theorem dX1_at_28 : decode cX1_at 28 = .ok (.getfield 20, 3) := by decide +kernel
theorem dX1_at_31 : decode cX1_at 31 = .ok (.iload_n 2, 1) := by decide +kernel
theorem dX1_at_32 : decode cX1_at 32 = .ok (.iaload, 1) := by decide +kernel
theorem dX1_at_33 : decode cX1_at 33 = .ok (.aload_n 0, 1) := by decide +kernel
theorem dX1_at_34 : decode cX1_at 34 = .ok (.getfield 41, 3) := by decide +kernel
theorem dX1_at_37 : decode cX1_at 37 = .ok (.iload_n 2, 1) := by decide +kernel
theorem dX1_at_38 : decode cX1_at 38 = .ok (.iaload, 1) := by decide +kernel
theorem dX1_at_39 : decode cX1_at 39 = .ok (.iadd, 1) := by decide +kernel
theorem dX1_at_40 : decode cX1_at 40 = .ok (.goto 4, 3) := by decide +kernel
theorem dX1_at_43 : decode cX1_at 43 = .ok (.iconst 0, 1) := by decide +kernel
theorem dX1_at_44 : decode cX1_at 44 = .ok (.iastore, 1) := by decide +kernel
theorem dX1_at_45 : decode cX1_at 45 = .ok (.iinc 2 1, 3) := by decide +kernel
theorem dX1_at_48 : decode cX1_at 48 = .ok (.goto (-41), 3) := by decide +kernel
theorem dX1_at_51 : decode cX1_at 51 = .ok (.iconst (-1), 1) := by decide +kernel
theorem dX1_at_52 : decode cX1_at 52 = .ok (.istore_n 2, 1) := by decide +kernel
theorem dX1_at_53 : decode cX1_at 53 = .ok (.iconst 0, 1) := by decide +kernel
theorem dX1_at_54 : decode cX1_at 54 = .ok (.istore_n 3, 1) := by decide +kernel
theorem dX1_at_55 : decode cX1_at 55 = .ok (.iload_n 3, 1) := by decide +kernel
theorem dX1_at_56 : decode cX1_at 56 = .ok (.iload_n 1, 1) := by decide +kernel
theorem dX1_at_57 : decode cX1_at 57 = .ok (.if_icmp .gt 21, 3) := by decide +kernel
theorem dX1_at_60 : decode cX1_at 60 = .ok (.iload_n 3, 1) := by decide +kernel
theorem dX1_at_61 : decode cX1_at 61 = .ok (.bipush 24, 2) := by decide +kernel
theorem dX1_at_63 : decode cX1_at 63 = .ok (.if_icmp .ge 15, 3) := by decide +kernel
theorem dX1_at_66 : decode cX1_at 66 = .ok (.aload_n 0, 1) := by decide +kernel
theorem dX1_at_67 : decode cX1_at 67 = .ok (.iload_n 3, 1) := by decide +kernel
theorem dX1_at_68 : decode cX1_at 68 = .ok (.invokevirtual 101, 3) := by decide +kernel
theorem dX1_at_71 : decode cX1_at 71 = .ok (.istore_n 2, 1) := by decide +kernel
theorem dX1_at_72 : decode cX1_at 72 = .ok (.iinc 3 1, 3) := by decide +kernel
theorem dX1_at_75 : decode cX1_at 75 = .ok (.goto (-20), 3) := by decide +kernel
theorem dX1_at_78 : decode cX1_at 78 = .ok (.iload_n 1, 1) := by decide +kernel
theorem dX1_at_79 : decode cX1_at 79 = .ok (.bipush 24, 2) := by decide +kernel
theorem dX1_at_81 : decode cX1_at 81 = .ok (.if_icmp .ge 7, 3) := by decide +kernel
theorem dX1_at_84 : decode cX1_at 84 = .ok (.iload_n 2, 1) := by decide +kernel
theorem dX1_at_85 : decode cX1_at 85 = .ok (.goto 4, 3) := by decide +kernel
theorem dX1_at_88 : decode cX1_at 88 = .ok (.iconst (-1), 1) := by decide +kernel
theorem dX1_at_89 : decode cX1_at 89 = .ok (.ireturn, 1) := by decide +kernel
theorem dX1_give_0 : decode cX1_give 0 = .ok (.aload_n 0, 1) := by decide +kernel
theorem dX1_give_1 : decode cX1_give 1 = .ok (.iload_n 1, 1) := by decide +kernel
theorem dX1_give_2 : decode cX1_give 2 = .ok (.iconst 1, 1) := by decide +kernel
theorem dX1_give_3 : decode cX1_give 3 = .ok (.iadd, 1) := by decide +kernel
theorem dX1_give_4 : decode cX1_give 4 = .ok (.invokevirtual 52, 3) := by decide +kernel
theorem dX1_give_7 : decode cX1_give 7 = .ok (.iconst 0, 1) := by decide +kernel
theorem dX1_give_8 : decode cX1_give 8 = .ok (.istore_n 2, 1) := by decide +kernel
theorem dX1_give_9 : decode cX1_give 9 = .ok (.iload_n 2, 1) := by decide +kernel
theorem dX1_give_10 : decode cX1_give 10 = .ok (.bipush 6, 2) := by decide +kernel
theorem dX1_give_12 : decode cX1_give 12 = .ok (.if_icmp .ge 58, 3) := by decide +kernel
theorem dX1_give_15 : decode cX1_give 15 = .ok (.aload_n 0, 1) := by decide +kernel
theorem dX1_give_16 : decode cX1_give 16 = .ok (.getfield 32, 3) := by decide +kernel
theorem dX1_give_19 : decode cX1_give 19 = .ok (.iload_n 2, 1) := by decide +kernel
theorem dX1_give_20 : decode cX1_give 20 = .ok (.iaload, 1) := by decide +kernel
theorem dX1_give_21 : decode cX1_give 21 = .ok (.ifCond .le 43, 3) := by decide +kernel
theorem dX1_give_24 : decode cX1_give 24 = .ok (.aload_n 0, 1) := by decide +kernel
theorem dX1_give_25 : decode cX1_give 25 = .ok (.iconst 1, 1) := by decide +kernel
theorem dX1_give_26 : decode cX1_give 26 = .ok (.iload_n 2, 1) := by decide +kernel
theorem dX1_give_27 : decode cX1_give 27 = .ok (.ishl, 1) := by decide +kernel
theorem dX1_give_28 : decode cX1_give 28 = .ok (.iload_n 1, 1) := by decide +kernel
theorem dX1_give_29 : decode cX1_give 29 = .ok (.invokevirtual 48, 3) := by decide +kernel
theorem dX1_give_32 : decode cX1_give 32 = .ok (.ifCond .eq 32, 3) := by decide +kernel
theorem dX1_give_35 : decode cX1_give 35 = .ok (.aload_n 0, 1) := by decide +kernel
theorem dX1_give_36 : decode cX1_give 36 = .ok (.getfield 32, 3) := by decide +kernel
theorem dX1_give_39 : decode cX1_give 39 = .ok (.iload_n 2, 1) := by decide +kernel
theorem dX1_give_40 : decode cX1_give 40 = .ok (.dup2, 1) := by decide +kernel
theorem dX1_give_41 : decode cX1_give 41 = .ok (.iaload, 1) := by decide +kernel
theorem dX1_give_42 : decode cX1_give 42 = .ok (.iconst 1, 1) := by decide +kernel
theorem dX1_give_43 : decode cX1_give 43 = .ok (.isub, 1) := by decide +kernel
theorem dX1_give_44 : decode cX1_give 44 = .ok (.iastore, 1) := by decide +kernel
theorem dX1_give_45 : decode cX1_give 45 = .ok (.aload_n 0, 1) := by decide +kernel
theorem dX1_give_46 : decode cX1_give 46 = .ok (.invokevirtual 56, 3) := by decide +kernel
theorem dX1_give_49 : decode cX1_give 49 = .ok (.ifCond .eq 5, 3) := by decide +kernel
theorem dX1_give_52 : decode cX1_give 52 = .ok (.iload_n 2, 1) := by decide +kernel
theorem dX1_give_53 : decode cX1_give 53 = .ok (.ireturn, 1) := by decide +kernel
theorem dX1_give_54 : decode cX1_give 54 = .ok (.aload_n 0, 1) := by decide +kernel
theorem dX1_give_55 : decode cX1_give 55 = .ok (.getfield 32, 3) := by decide +kernel
theorem dX1_give_58 : decode cX1_give 58 = .ok (.iload_n 2, 1) := by decide +kernel
theorem dX1_give_59 : decode cX1_give 59 = .ok (.dup2, 1) := by decide +kernel
theorem dX1_give_60 : decode cX1_give 60 = .ok (.iaload, 1) := by decide +kernel
theorem dX1_give_61 : decode cX1_give 61 = .ok (.iconst 1, 1) := by decide +kernel
theorem dX1_give_62 : decode cX1_give 62 = .ok (.iadd, 1) := by decide +kernel
theorem dX1_give_63 : decode cX1_give 63 = .ok (.iastore, 1) := by decide +kernel
theorem dX1_give_64 : decode cX1_give 64 = .ok (.iinc 2 1, 3) := by decide +kernel
theorem dX1_give_67 : decode cX1_give 67 = .ok (.goto (-58), 3) := by decide +kernel
theorem dX1_give_70 : decode cX1_give 70 = .ok (.iconst (-1), 1) := by decide +kernel
theorem dX1_give_71 : decode cX1_give 71 = .ok (.ireturn, 1) := by decide +kernel
theorem dX1_greatestMust_0 : decode cX1_greatestMust 0 = .ok (.aload_n 0, 1) := by decide +kernel
theorem dX1_greatestMust_1 : decode cX1_greatestMust 1 = .ok (.iload_n 1, 1) := by decide +kernel
theorem dX1_greatestMust_2 : decode cX1_greatestMust 2 = .ok (.invokevirtual 71, 3) := by decide +kernel
theorem dX1_greatestMust_5 : decode cX1_greatestMust 5 = .ok (.ifCond .ne 5, 3) := by decide +kernel
theorem dX1_greatestMust_8 : decode cX1_greatestMust 8 = .ok (.iconst (-1), 1) := by decide +kernel
theorem dX1_greatestMust_9 : decode cX1_greatestMust 9 = .ok (.ireturn, 1) := by decide +kernel
theorem dX1_greatestMust_10 : decode cX1_greatestMust 10 = .ok (.aload_n 0, 1) := by decide +kernel
theorem dX1_greatestMust_11 : decode cX1_greatestMust 11 = .ok (.getfield 20, 3) := by decide +kernel
theorem dX1_greatestMust_14 : decode cX1_greatestMust 14 = .ok (.iload_n 1, 1) := by decide +kernel
theorem dX1_greatestMust_15 : decode cX1_greatestMust 15 = .ok (.iaload, 1) := by decide +kernel
theorem dX1_greatestMust_16 : decode cX1_greatestMust 16 = .ok (.istore_n 2, 1) := by decide +kernel
theorem dX1_greatestMust_17 : decode cX1_greatestMust 17 = .ok (.iconst 0, 1) := by decide +kernel
theorem dX1_greatestMust_18 : decode cX1_greatestMust 18 = .ok (.istore_n 3, 1) := by decide +kernel
theorem dX1_greatestMust_19 : decode cX1_greatestMust 19 = .ok (.iconst 0, 1) := by decide +kernel
theorem dX1_greatestMust_20 : decode cX1_greatestMust 20 = .ok (.istore 4, 2) := by decide +kernel
theorem dX1_greatestMust_22 : decode cX1_greatestMust 22 = .ok (.iload 4, 2) := by decide +kernel
theorem dX1_greatestMust_24 : decode cX1_greatestMust 24 = .ok (.bipush 6, 2) := by decide +kernel
theorem dX1_greatestMust_26 : decode cX1_greatestMust 26 = .ok (.if_icmp .gt 31, 3) := by decide +kernel
theorem dX1_greatestMust_29 : decode cX1_greatestMust 29 = .ok (.aload_n 0, 1) := by decide +kernel
theorem dX1_greatestMust_30 : decode cX1_greatestMust 30 = .ok (.getfield 20, 3) := by decide +kernel
theorem dX1_greatestMust_33 : decode cX1_greatestMust 33 = .ok (.iload_n 1, 1) := by decide +kernel
theorem dX1_greatestMust_34 : decode cX1_greatestMust 34 = .ok (.iload 4, 2) := by decide +kernel
theorem dX1_greatestMust_36 : decode cX1_greatestMust 36 = .ok (.iastore, 1) := by decide +kernel
theorem dX1_greatestMust_37 : decode cX1_greatestMust 37 = .ok (.aload_n 0, 1) := by decide +kernel
theorem dX1_greatestMust_38 : decode cX1_greatestMust 38 = .ok (.invokevirtual 68, 3) := by decide +kernel
theorem dX1_greatestMust_41 : decode cX1_greatestMust 41 = .ok (.ifCond .eq 8, 3) := by decide +kernel
theorem dX1_greatestMust_44 : decode cX1_greatestMust 44 = .ok (.iload 4, 2) := by decide +kernel
theorem dX1_greatestMust_46 : decode cX1_greatestMust 46 = .ok (.goto 4, 3) := by decide +kernel
theorem dX1_greatestMust_49 : decode cX1_greatestMust 49 = .ok (.iload_n 3, 1) := by decide +kernel
theorem dX1_greatestMust_50 : decode cX1_greatestMust 50 = .ok (.istore_n 3, 1) := by decide +kernel
theorem dX1_greatestMust_51 : decode cX1_greatestMust 51 = .ok (.iinc 4 1, 3) := by decide +kernel
theorem dX1_greatestMust_54 : decode cX1_greatestMust 54 = .ok (.goto (-32), 3) := by decide +kernel
theorem dX1_greatestMust_57 : decode cX1_greatestMust 57 = .ok (.aload_n 0, 1) := by decide +kernel
theorem dX1_greatestMust_58 : decode cX1_greatestMust 58 = .ok (.getfield 20, 3) := by decide +kernel
theorem dX1_greatestMust_61 : decode cX1_greatestMust 61 = .ok (.iload_n 1, 1) := by decide +kernel
theorem dX1_greatestMust_62 : decode cX1_greatestMust 62 = .ok (.iload_n 2, 1) := by decide +kernel
theorem dX1_greatestMust_63 : decode cX1_greatestMust 63 = .ok (.iastore, 1) := by decide +kernel
theorem dX1_greatestMust_64 : decode cX1_greatestMust 64 = .ok (.iload_n 3, 1) := by decide +kernel
theorem dX1_greatestMust_65 : decode cX1_greatestMust 65 = .ok (.ireturn, 1) := by decide +kernel
theorem dX1_lossWithout_0 : decode cX1_lossWithout 0 = .ok (.iload_n 1, 1) := by decide +kernel
theorem dX1_lossWithout_1 : decode cX1_lossWithout 1 = .ok (.ifCond .lt 9, 3) := by decide +kernel
theorem dX1_lossWithout_4 : decode cX1_lossWithout 4 = .ok (.iload_n 1, 1) := by decide +kernel
theorem dX1_lossWithout_5 : decode cX1_lossWithout 5 = .ok (.bipush 23, 2) := by decide +kernel
theorem dX1_lossWithout_7 : decode cX1_lossWithout 7 = .ok (.if_icmp .le 5, 3) := by decide +kernel
theorem dX1_lossWithout_10 : decode cX1_lossWithout 10 = .ok (.iconst (-1), 1) := by decide +kernel
theorem dX1_lossWithout_11 : decode cX1_lossWithout 11 = .ok (.ireturn, 1) := by decide +kernel
theorem dX1_lossWithout_12 : decode cX1_lossWithout 12 = .ok (.aload_n 0, 1) := by decide +kernel
theorem dX1_lossWithout_13 : decode cX1_lossWithout 13 = .ok (.getfield 44, 3) := by decide +kernel
theorem dX1_lossWithout_16 : decode cX1_lossWithout 16 = .ok (.istore_n 2, 1) := by decide +kernel
theorem dX1_lossWithout_17 : decode cX1_lossWithout 17 = .ok (.aload_n 0, 1) := by decide +kernel
theorem dX1_lossWithout_18 : decode cX1_lossWithout 18 = .ok (.aload_n 0, 1) := by decide +kernel
theorem dX1_lossWithout_19 : decode cX1_lossWithout 19 = .ok (.getfield 44, 3) := by decide +kernel
theorem dX1_lossWithout_22 : decode cX1_lossWithout 22 = .ok (.iconst 1, 1) := by decide +kernel
theorem dX1_lossWithout_23 : decode cX1_lossWithout 23 = .ok (.iload_n 1, 1) := by decide +kernel
theorem dX1_lossWithout_24 : decode cX1_lossWithout 24 = .ok (.ishl, 1) := by decide +kernel
theorem dX1_lossWithout_25 : decode cX1_lossWithout 25 = .ok (.ior, 1) := by decide +kernel
theorem dX1_lossWithout_26 : decode cX1_lossWithout 26 = .ok (.putfield 44, 3) := by decide +kernel
theorem dX1_lossWithout_29 : decode cX1_lossWithout 29 = .ok (.aload_n 0, 1) := by decide +kernel
theorem dX1_lossWithout_30 : decode cX1_lossWithout 30 = .ok (.invokevirtual 68, 3) := by decide +kernel
theorem dX1_lossWithout_33 : decode cX1_lossWithout 33 = .ok (.ifCond .eq 10, 3) := by decide +kernel
theorem dX1_lossWithout_36 : decode cX1_lossWithout 36 = .ok (.aload_n 0, 1) := by decide +kernel
theorem dX1_lossWithout_37 : decode cX1_lossWithout 37 = .ok (.invokevirtual 98, 3) := by decide +kernel
theorem dX1_lossWithout_40 : decode cX1_lossWithout 40 = .ok (.goto 4, 3) := by decide +kernel
theorem dX1_lossWithout_43 : decode cX1_lossWithout 43 = .ok (.iconst (-1), 1) := by decide +kernel
theorem dX1_lossWithout_44 : decode cX1_lossWithout 44 = .ok (.istore_n 3, 1) := by decide +kernel
theorem dX1_lossWithout_45 : decode cX1_lossWithout 45 = .ok (.aload_n 0, 1) := by decide +kernel
theorem dX1_lossWithout_46 : decode cX1_lossWithout 46 = .ok (.iload_n 2, 1) := by decide +kernel
theorem dX1_lossWithout_47 : decode cX1_lossWithout 47 = .ok (.putfield 44, 3) := by decide +kernel
theorem dX1_lossWithout_50 : decode cX1_lossWithout 50 = .ok (.iload_n 3, 1) := by decide +kernel
theorem dX1_lossWithout_51 : decode cX1_lossWithout 51 = .ok (.ireturn, 1) := by decide +kernel
theorem dX1_freeable_0 : decode cX1_freeable 0 = .ok (.iload_n 1, 1) := by decide +kernel
theorem dX1_freeable_1 : decode cX1_freeable 1 = .ok (.ifCond .lt 14, 3) := by decide +kernel
theorem dX1_freeable_4 : decode cX1_freeable 4 = .ok (.iload_n 1, 1) := by decide +kernel
theorem dX1_freeable_5 : decode cX1_freeable 5 = .ok (.iload_n 2, 1) := by decide +kernel
theorem dX1_freeable_6 : decode cX1_freeable 6 = .ok (.if_icmp .ge 9, 3) := by decide +kernel
theorem dX1_freeable_9 : decode cX1_freeable 9 = .ok (.iload_n 2, 1) := by decide +kernel
theorem dX1_freeable_10 : decode cX1_freeable 10 = .ok (.bipush 24, 2) := by decide +kernel
theorem dX1_freeable_12 : decode cX1_freeable 12 = .ok (.if_icmp .le 5, 3) := by decide +kernel
theorem dX1_freeable_15 : decode cX1_freeable 15 = .ok (.iconst (-1), 1) := by decide +kernel
theorem dX1_freeable_16 : decode cX1_freeable 16 = .ok (.ireturn, 1) := by decide +kernel
theorem dX1_freeable_17 : decode cX1_freeable 17 = .ok (.aload_n 0, 1) := by decide +kernel
theorem dX1_freeable_18 : decode cX1_freeable 18 = .ok (.getfield 44, 3) := by decide +kernel
theorem dX1_freeable_21 : decode cX1_freeable 21 = .ok (.istore_n 3, 1) := by decide +kernel
theorem dX1_freeable_22 : decode cX1_freeable 22 = .ok (.iconst 0, 1) := by decide +kernel
theorem dX1_freeable_23 : decode cX1_freeable 23 = .ok (.istore 4, 2) := by decide +kernel
theorem dX1_freeable_25 : decode cX1_freeable 25 = .ok (.iload_n 1, 1) := by decide +kernel
theorem dX1_freeable_26 : decode cX1_freeable 26 = .ok (.istore 5, 2) := by decide +kernel
theorem dX1_freeable_28 : decode cX1_freeable 28 = .ok (.iload 5, 2) := by decide +kernel
theorem dX1_freeable_30 : decode cX1_freeable 30 = .ok (.iload_n 2, 1) := by decide +kernel
theorem dX1_freeable_31 : decode cX1_freeable 31 = .ok (.if_icmp .ge 43, 3) := by decide +kernel
theorem dX1_freeable_34 : decode cX1_freeable 34 = .ok (.aload_n 0, 1) := by decide +kernel
theorem dX1_freeable_35 : decode cX1_freeable 35 = .ok (.getfield 44, 3) := by decide +kernel
theorem dX1_freeable_38 : decode cX1_freeable 38 = .ok (.iload 5, 2) := by decide +kernel
theorem dX1_freeable_40 : decode cX1_freeable 40 = .ok (.ishr, 1) := by decide +kernel
theorem dX1_freeable_41 : decode cX1_freeable 41 = .ok (.iconst 1, 1) := by decide +kernel
theorem dX1_freeable_42 : decode cX1_freeable 42 = .ok (.iand, 1) := by decide +kernel
theorem dX1_freeable_43 : decode cX1_freeable 43 = .ok (.ifCond .ne 25, 3) := by decide +kernel
theorem dX1_freeable_46 : decode cX1_freeable 46 = .ok (.iload 4, 2) := by decide +kernel
theorem dX1_freeable_48 : decode cX1_freeable 48 = .ok (.aload_n 0, 1) := by decide +kernel
theorem dX1_freeable_49 : decode cX1_freeable 49 = .ok (.iload 5, 2) := by decide +kernel
theorem dX1_freeable_51 : decode cX1_freeable 51 = .ok (.iconst 1, 1) := by decide +kernel
theorem dX1_freeable_52 : decode cX1_freeable 52 = .ok (.invokevirtual 105, 3) := by decide +kernel
theorem dX1_freeable_55 : decode cX1_freeable 55 = .ok (.iload 5, 2) := by decide +kernel
theorem dX1_freeable_57 : decode cX1_freeable 57 = .ok (.if_icmp .ne 7, 3) := by decide +kernel
theorem dX1_freeable_60 : decode cX1_freeable 60 = .ok (.iconst 1, 1) := by decide +kernel
theorem dX1_freeable_61 : decode cX1_freeable 61 = .ok (.goto 4, 3) := by decide +kernel
theorem dX1_freeable_64 : decode cX1_freeable 64 = .ok (.iconst 0, 1) := by decide +kernel
theorem dX1_freeable_65 : decode cX1_freeable 65 = .ok (.iadd, 1) := by decide +kernel
theorem dX1_freeable_66 : decode cX1_freeable 66 = .ok (.istore 4, 2) := by decide +kernel
theorem dX1_freeable_68 : decode cX1_freeable 68 = .ok (.iinc 5 1, 3) := by decide +kernel
theorem dX1_freeable_71 : decode cX1_freeable 71 = .ok (.goto (-43), 3) := by decide +kernel
theorem dX1_freeable_74 : decode cX1_freeable 74 = .ok (.aload_n 0, 1) := by decide +kernel
theorem dX1_freeable_75 : decode cX1_freeable 75 = .ok (.iload_n 3, 1) := by decide +kernel
theorem dX1_freeable_76 : decode cX1_freeable 76 = .ok (.putfield 44, 3) := by decide +kernel
theorem dX1_freeable_79 : decode cX1_freeable 79 = .ok (.iload 4, 2) := by decide +kernel
theorem dX1_freeable_81 : decode cX1_freeable 81 = .ok (.ireturn, 1) := by decide +kernel
theorem dX1_idle_0 : decode cX1_idle 0 = .ok (.aload_n 0, 1) := by decide +kernel
theorem dX1_idle_1 : decode cX1_idle 1 = .ok (.invokevirtual 98, 3) := by decide +kernel
theorem dX1_idle_4 : decode cX1_idle 4 = .ok (.pop, 1) := by decide +kernel
theorem dX1_idle_5 : decode cX1_idle 5 = .ok (.iconst 0, 1) := by decide +kernel
theorem dX1_idle_6 : decode cX1_idle 6 = .ok (.istore_n 1, 1) := by decide +kernel
theorem dX1_idle_7 : decode cX1_idle 7 = .ok (.iconst 0, 1) := by decide +kernel
theorem dX1_idle_8 : decode cX1_idle 8 = .ok (.istore_n 2, 1) := by decide +kernel
theorem dX1_idle_9 : decode cX1_idle 9 = .ok (.iload_n 2, 1) := by decide +kernel
theorem dX1_idle_10 : decode cX1_idle 10 = .ok (.bipush 24, 2) := by decide +kernel
theorem dX1_idle_12 : decode cX1_idle 12 = .ok (.if_icmp .ge 28, 3) := by decide +kernel
theorem dX1_idle_15 : decode cX1_idle 15 = .ok (.iload_n 1, 1) := by decide +kernel
theorem dX1_idle_16 : decode cX1_idle 16 = .ok (.aload_n 0, 1) := by decide +kernel
theorem dX1_idle_17 : decode cX1_idle 17 = .ok (.getfield 44, 3) := by decide +kernel
theorem dX1_idle_20 : decode cX1_idle 20 = .ok (.iload_n 2, 1) := by decide +kernel
theorem dX1_idle_21 : decode cX1_idle 21 = .ok (.ishr, 1) := by decide +kernel
theorem dX1_idle_22 : decode cX1_idle 22 = .ok (.iconst 1, 1) := by decide +kernel
theorem dX1_idle_23 : decode cX1_idle 23 = .ok (.iand, 1) := by decide +kernel
theorem dX1_idle_24 : decode cX1_idle 24 = .ok (.ifCond .ne 7, 3) := by decide +kernel
theorem dX1_idle_27 : decode cX1_idle 27 = .ok (.iconst 1, 1) := by decide +kernel
theorem dX1_idle_28 : decode cX1_idle 28 = .ok (.goto 4, 3) := by decide +kernel
theorem dX1_idle_31 : decode cX1_idle 31 = .ok (.iconst 0, 1) := by decide +kernel
theorem dX1_idle_32 : decode cX1_idle 32 = .ok (.iadd, 1) := by decide +kernel
theorem dX1_idle_33 : decode cX1_idle 33 = .ok (.istore_n 1, 1) := by decide +kernel
theorem dX1_idle_34 : decode cX1_idle 34 = .ok (.iinc 2 1, 3) := by decide +kernel
theorem dX1_idle_37 : decode cX1_idle 37 = .ok (.goto (-28), 3) := by decide +kernel
theorem dX1_idle_40 : decode cX1_idle 40 = .ok (.iconst 0, 1) := by decide +kernel
theorem dX1_idle_41 : decode cX1_idle 41 = .ok (.istore_n 2, 1) := by decide +kernel
theorem dX1_idle_42 : decode cX1_idle 42 = .ok (.iload_n 2, 1) := by decide +kernel
theorem dX1_idle_43 : decode cX1_idle 43 = .ok (.bipush 6, 2) := by decide +kernel
theorem dX1_idle_45 : decode cX1_idle 45 = .ok (.if_icmp .ge 38, 3) := by decide +kernel
theorem dX1_idle_48 : decode cX1_idle 48 = .ok (.iload_n 1, 1) := by decide +kernel
theorem dX1_idle_49 : decode cX1_idle 49 = .ok (.aload_n 0, 1) := by decide +kernel
theorem dX1_idle_50 : decode cX1_idle 50 = .ok (.getfield 7, 3) := by decide +kernel
theorem dX1_idle_53 : decode cX1_idle 53 = .ok (.iload_n 2, 1) := by decide +kernel
theorem dX1_idle_54 : decode cX1_idle 54 = .ok (.baload, 1) := by decide +kernel
theorem dX1_idle_55 : decode cX1_idle 55 = .ok (.ifCond .eq 19, 3) := by decide +kernel
theorem dX1_idle_58 : decode cX1_idle 58 = .ok (.aload_n 0, 1) := by decide +kernel
theorem dX1_idle_59 : decode cX1_idle 59 = .ok (.getfield 20, 3) := by decide +kernel
theorem dX1_idle_62 : decode cX1_idle 62 = .ok (.iload_n 2, 1) := by decide +kernel
theorem dX1_idle_63 : decode cX1_idle 63 = .ok (.iaload, 1) := by decide +kernel
theorem dX1_idle_64 : decode cX1_idle 64 = .ok (.aload_n 0, 1) := by decide +kernel
theorem dX1_idle_65 : decode cX1_idle 65 = .ok (.getfield 41, 3) := by decide +kernel
theorem dX1_idle_68 : decode cX1_idle 68 = .ok (.iload_n 2, 1) := by decide +kernel
theorem dX1_idle_69 : decode cX1_idle 69 = .ok (.iaload, 1) := by decide +kernel
theorem dX1_idle_70 : decode cX1_idle 70 = .ok (.iadd, 1) := by decide +kernel
theorem dX1_idle_71 : decode cX1_idle 71 = .ok (.goto 4, 3) := by decide +kernel
theorem dX1_idle_74 : decode cX1_idle 74 = .ok (.iconst 0, 1) := by decide +kernel
theorem dX1_idle_75 : decode cX1_idle 75 = .ok (.isub, 1) := by decide +kernel
theorem dX1_idle_76 : decode cX1_idle 76 = .ok (.istore_n 1, 1) := by decide +kernel
theorem dX1_idle_77 : decode cX1_idle 77 = .ok (.iinc 2 1, 3) := by decide +kernel
theorem dX1_idle_80 : decode cX1_idle 80 = .ok (.goto (-38), 3) := by decide +kernel
theorem dX1_idle_83 : decode cX1_idle 83 = .ok (.iload_n 1, 1) := by decide +kernel
theorem dX1_idle_84 : decode cX1_idle 84 = .ok (.ireturn, 1) := by decide +kernel
end
section
set_option maxRecDepth 100000
theorem dL_law_0 : decode cL_law 0 = .ok (.new 7, 3) := by decide +kernel
theorem dL_law_3 : decode cL_law 3 = .ok (.dup, 1) := by decide +kernel
theorem dL_law_4 : decode cL_law 4 = .ok (.invokespecial 9, 3) := by decide +kernel
theorem dL_law_7 : decode cL_law 7 = .ok (.astore_n 1, 1) := by decide +kernel
theorem dL_law_8 : decode cL_law 8 = .ok (.new 10, 3) := by decide +kernel
theorem dL_law_11 : decode cL_law 11 = .ok (.dup, 1) := by decide +kernel
theorem dL_law_12 : decode cL_law 12 = .ok (.invokespecial 12, 3) := by decide +kernel
theorem dL_law_15 : decode cL_law 15 = .ok (.astore_n 2, 1) := by decide +kernel
theorem dL_law_16 : decode cL_law 16 = .ok (.iconst 0, 1) := by decide +kernel
theorem dL_law_17 : decode cL_law 17 = .ok (.istore_n 3, 1) := by decide +kernel
theorem dL_law_18 : decode cL_law 18 = .ok (.iload_n 3, 1) := by decide +kernel
theorem dL_law_19 : decode cL_law 19 = .ok (.aload_n 0, 1) := by decide +kernel
theorem dL_law_20 : decode cL_law 20 = .ok (.arraylength, 1) := by decide +kernel
theorem dL_law_21 : decode cL_law 21 = .ok (.iconst 4, 1) := by decide +kernel
theorem dL_law_22 : decode cL_law 22 = .ok (.isub, 1) := by decide +kernel
theorem dL_law_23 : decode cL_law 23 = .ok (.if_icmp .gt 408, 3) := by decide +kernel
theorem dL_law_26 : decode cL_law 26 = .ok (.aload_n 0, 1) := by decide +kernel
theorem dL_law_27 : decode cL_law 27 = .ok (.iload_n 3, 1) := by decide +kernel
theorem dL_law_28 : decode cL_law 28 = .ok (.iaload, 1) := by decide +kernel
theorem dL_law_29 : decode cL_law 29 = .ok (.bipush 15, 2) := by decide +kernel
theorem dL_law_31 : decode cL_law 31 = .ok (.iand, 1) := by decide +kernel
theorem dL_law_32 : decode cL_law 32 = .ok (.tableswitch 393 0 12 #[68, 111, 134, 183, 216, 229, 242, 255, 278, 301, 324, 347, 380], 68) := by decide +kernel
theorem dL_law_100 : decode cL_law 100 = .ok (.aload_n 1, 1) := by decide +kernel
theorem dL_law_101 : decode cL_law 101 = .ok (.aload_n 0, 1) := by decide +kernel
theorem dL_law_102 : decode cL_law 102 = .ok (.iload_n 3, 1) := by decide +kernel
theorem dL_law_103 : decode cL_law 103 = .ok (.iconst 1, 1) := by decide +kernel
theorem dL_law_104 : decode cL_law 104 = .ok (.iadd, 1) := by decide +kernel
theorem dL_law_105 : decode cL_law 105 = .ok (.iaload, 1) := by decide +kernel
theorem dL_law_106 : decode cL_law 106 = .ok (.aload_n 0, 1) := by decide +kernel
theorem dL_law_107 : decode cL_law 107 = .ok (.iload_n 3, 1) := by decide +kernel
theorem dL_law_108 : decode cL_law 108 = .ok (.iconst 2, 1) := by decide +kernel
theorem dL_law_109 : decode cL_law 109 = .ok (.iadd, 1) := by decide +kernel
theorem dL_law_110 : decode cL_law 110 = .ok (.iaload, 1) := by decide +kernel
theorem dL_law_111 : decode cL_law 111 = .ok (.aload_n 0, 1) := by decide +kernel
theorem dL_law_112 : decode cL_law 112 = .ok (.iload_n 3, 1) := by decide +kernel
theorem dL_law_113 : decode cL_law 113 = .ok (.iconst 3, 1) := by decide +kernel
theorem dL_law_114 : decode cL_law 114 = .ok (.iadd, 1) := by decide +kernel
theorem dL_law_115 : decode cL_law 115 = .ok (.iaload, 1) := by decide +kernel
theorem dL_law_116 : decode cL_law 116 = .ok (.invokevirtual 13, 3) := by decide +kernel
theorem dL_law_119 : decode cL_law 119 = .ok (.aload_n 2, 1) := by decide +kernel
theorem dL_law_120 : decode cL_law 120 = .ok (.aload_n 0, 1) := by decide +kernel
theorem dL_law_121 : decode cL_law 121 = .ok (.iload_n 3, 1) := by decide +kernel
theorem dL_law_122 : decode cL_law 122 = .ok (.iconst 1, 1) := by decide +kernel
theorem dL_law_123 : decode cL_law 123 = .ok (.iadd, 1) := by decide +kernel
theorem dL_law_124 : decode cL_law 124 = .ok (.iaload, 1) := by decide +kernel
theorem dL_law_125 : decode cL_law 125 = .ok (.aload_n 0, 1) := by decide +kernel
theorem dL_law_126 : decode cL_law 126 = .ok (.iload_n 3, 1) := by decide +kernel
theorem dL_law_127 : decode cL_law 127 = .ok (.iconst 2, 1) := by decide +kernel
theorem dL_law_128 : decode cL_law 128 = .ok (.iadd, 1) := by decide +kernel
theorem dL_law_129 : decode cL_law 129 = .ok (.iaload, 1) := by decide +kernel
theorem dL_law_130 : decode cL_law 130 = .ok (.aload_n 0, 1) := by decide +kernel
theorem dL_law_131 : decode cL_law 131 = .ok (.iload_n 3, 1) := by decide +kernel
theorem dL_law_132 : decode cL_law 132 = .ok (.iconst 3, 1) := by decide +kernel
theorem dL_law_133 : decode cL_law 133 = .ok (.iadd, 1) := by decide +kernel
theorem dL_law_134 : decode cL_law 134 = .ok (.iaload, 1) := by decide +kernel
theorem dL_law_135 : decode cL_law 135 = .ok (.invokevirtual 17, 3) := by decide +kernel
theorem dL_law_138 : decode cL_law 138 = .ok (.if_icmp .eq 287, 3) := by decide +kernel
theorem dL_law_141 : decode cL_law 141 = .ok (.iconst 0, 1) := by decide +kernel
theorem dL_law_142 : decode cL_law 142 = .ok (.ireturn, 1) := by decide +kernel
theorem dL_law_143 : decode cL_law 143 = .ok (.aload_n 1, 1) := by decide +kernel
theorem dL_law_144 : decode cL_law 144 = .ok (.aload_n 0, 1) := by decide +kernel
theorem dL_law_145 : decode cL_law 145 = .ok (.iload_n 3, 1) := by decide +kernel
theorem dL_law_146 : decode cL_law 146 = .ok (.iconst 1, 1) := by decide +kernel
theorem dL_law_147 : decode cL_law 147 = .ok (.iadd, 1) := by decide +kernel
theorem dL_law_148 : decode cL_law 148 = .ok (.iaload, 1) := by decide +kernel
theorem dL_law_149 : decode cL_law 149 = .ok (.invokevirtual 18, 3) := by decide +kernel
theorem dL_law_152 : decode cL_law 152 = .ok (.aload_n 2, 1) := by decide +kernel
theorem dL_law_153 : decode cL_law 153 = .ok (.aload_n 0, 1) := by decide +kernel
theorem dL_law_154 : decode cL_law 154 = .ok (.iload_n 3, 1) := by decide +kernel
theorem dL_law_155 : decode cL_law 155 = .ok (.iconst 1, 1) := by decide +kernel
theorem dL_law_156 : decode cL_law 156 = .ok (.iadd, 1) := by decide +kernel
theorem dL_law_157 : decode cL_law 157 = .ok (.iaload, 1) := by decide +kernel
theorem dL_law_158 : decode cL_law 158 = .ok (.invokevirtual 22, 3) := by decide +kernel
theorem dL_law_161 : decode cL_law 161 = .ok (.if_icmp .eq 264, 3) := by decide +kernel
theorem dL_law_164 : decode cL_law 164 = .ok (.iconst 0, 1) := by decide +kernel
theorem dL_law_165 : decode cL_law 165 = .ok (.ireturn, 1) := by decide +kernel
theorem dL_law_166 : decode cL_law 166 = .ok (.aload_n 1, 1) := by decide +kernel
theorem dL_law_167 : decode cL_law 167 = .ok (.aload_n 0, 1) := by decide +kernel
theorem dL_law_168 : decode cL_law 168 = .ok (.iload_n 3, 1) := by decide +kernel
theorem dL_law_169 : decode cL_law 169 = .ok (.iconst 1, 1) := by decide +kernel
theorem dL_law_170 : decode cL_law 170 = .ok (.iadd, 1) := by decide +kernel
theorem dL_law_171 : decode cL_law 171 = .ok (.iaload, 1) := by decide +kernel
theorem dL_law_172 : decode cL_law 172 = .ok (.aload_n 0, 1) := by decide +kernel
theorem dL_law_173 : decode cL_law 173 = .ok (.iload_n 3, 1) := by decide +kernel
theorem dL_law_174 : decode cL_law 174 = .ok (.iconst 2, 1) := by decide +kernel
theorem dL_law_175 : decode cL_law 175 = .ok (.iadd, 1) := by decide +kernel
theorem dL_law_176 : decode cL_law 176 = .ok (.iaload, 1) := by decide +kernel
theorem dL_law_177 : decode cL_law 177 = .ok (.ifCond .eq 7, 3) := by decide +kernel
theorem dL_law_180 : decode cL_law 180 = .ok (.iconst 1, 1) := by decide +kernel
theorem dL_law_181 : decode cL_law 181 = .ok (.goto 4, 3) := by decide +kernel
theorem dL_law_184 : decode cL_law 184 = .ok (.iconst 0, 1) := by decide +kernel
theorem dL_law_185 : decode cL_law 185 = .ok (.invokevirtual 23, 3) := by decide +kernel
theorem dL_law_188 : decode cL_law 188 = .ok (.aload_n 2, 1) := by decide +kernel
theorem dL_law_189 : decode cL_law 189 = .ok (.aload_n 0, 1) := by decide +kernel
theorem dL_law_190 : decode cL_law 190 = .ok (.iload_n 3, 1) := by decide +kernel
theorem dL_law_191 : decode cL_law 191 = .ok (.iconst 1, 1) := by decide +kernel
theorem dL_law_192 : decode cL_law 192 = .ok (.iadd, 1) := by decide +kernel
theorem dL_law_193 : decode cL_law 193 = .ok (.iaload, 1) := by decide +kernel
theorem dL_law_194 : decode cL_law 194 = .ok (.aload_n 0, 1) := by decide +kernel
theorem dL_law_195 : decode cL_law 195 = .ok (.iload_n 3, 1) := by decide +kernel
theorem dL_law_196 : decode cL_law 196 = .ok (.iconst 2, 1) := by decide +kernel
theorem dL_law_197 : decode cL_law 197 = .ok (.iadd, 1) := by decide +kernel
theorem dL_law_198 : decode cL_law 198 = .ok (.iaload, 1) := by decide +kernel
theorem dL_law_199 : decode cL_law 199 = .ok (.ifCond .eq 7, 3) := by decide +kernel
theorem dL_law_202 : decode cL_law 202 = .ok (.iconst 1, 1) := by decide +kernel
theorem dL_law_203 : decode cL_law 203 = .ok (.goto 4, 3) := by decide +kernel
theorem dL_law_206 : decode cL_law 206 = .ok (.iconst 0, 1) := by decide +kernel
theorem dL_law_207 : decode cL_law 207 = .ok (.invokevirtual 27, 3) := by decide +kernel
theorem dL_law_210 : decode cL_law 210 = .ok (.if_icmp .eq 215, 3) := by decide +kernel
theorem dL_law_213 : decode cL_law 213 = .ok (.iconst 0, 1) := by decide +kernel
theorem dL_law_214 : decode cL_law 214 = .ok (.ireturn, 1) := by decide +kernel
theorem dL_law_215 : decode cL_law 215 = .ok (.aload_n 1, 1) := by decide +kernel
theorem dL_law_216 : decode cL_law 216 = .ok (.aload_n 0, 1) := by decide +kernel
theorem dL_law_217 : decode cL_law 217 = .ok (.iload_n 3, 1) := by decide +kernel
theorem dL_law_218 : decode cL_law 218 = .ok (.iconst 1, 1) := by decide +kernel
theorem dL_law_219 : decode cL_law 219 = .ok (.iadd, 1) := by decide +kernel
theorem dL_law_220 : decode cL_law 220 = .ok (.iaload, 1) := by decide +kernel
theorem dL_law_221 : decode cL_law 221 = .ok (.aload_n 0, 1) := by decide +kernel
theorem dL_law_222 : decode cL_law 222 = .ok (.iload_n 3, 1) := by decide +kernel
theorem dL_law_223 : decode cL_law 223 = .ok (.iconst 2, 1) := by decide +kernel
theorem dL_law_224 : decode cL_law 224 = .ok (.iadd, 1) := by decide +kernel
theorem dL_law_225 : decode cL_law 225 = .ok (.iaload, 1) := by decide +kernel
theorem dL_law_226 : decode cL_law 226 = .ok (.invokevirtual 28, 3) := by decide +kernel
theorem dL_law_229 : decode cL_law 229 = .ok (.aload_n 2, 1) := by decide +kernel
theorem dL_law_230 : decode cL_law 230 = .ok (.aload_n 0, 1) := by decide +kernel
theorem dL_law_231 : decode cL_law 231 = .ok (.iload_n 3, 1) := by decide +kernel
theorem dL_law_232 : decode cL_law 232 = .ok (.iconst 1, 1) := by decide +kernel
theorem dL_law_233 : decode cL_law 233 = .ok (.iadd, 1) := by decide +kernel
theorem dL_law_234 : decode cL_law 234 = .ok (.iaload, 1) := by decide +kernel
theorem dL_law_235 : decode cL_law 235 = .ok (.aload_n 0, 1) := by decide +kernel
theorem dL_law_236 : decode cL_law 236 = .ok (.iload_n 3, 1) := by decide +kernel
theorem dL_law_237 : decode cL_law 237 = .ok (.iconst 2, 1) := by decide +kernel
theorem dL_law_238 : decode cL_law 238 = .ok (.iadd, 1) := by decide +kernel
theorem dL_law_239 : decode cL_law 239 = .ok (.iaload, 1) := by decide +kernel
theorem dL_law_240 : decode cL_law 240 = .ok (.invokevirtual 32, 3) := by decide +kernel
theorem dL_law_243 : decode cL_law 243 = .ok (.if_icmp .eq 182, 3) := by decide +kernel
theorem dL_law_246 : decode cL_law 246 = .ok (.iconst 0, 1) := by decide +kernel
theorem dL_law_247 : decode cL_law 247 = .ok (.ireturn, 1) := by decide +kernel
theorem dL_law_248 : decode cL_law 248 = .ok (.aload_n 1, 1) := by decide +kernel
theorem dL_law_249 : decode cL_law 249 = .ok (.invokevirtual 33, 3) := by decide +kernel
theorem dL_law_252 : decode cL_law 252 = .ok (.aload_n 2, 1) := by decide +kernel
theorem dL_law_253 : decode cL_law 253 = .ok (.invokevirtual 37, 3) := by decide +kernel
theorem dL_law_256 : decode cL_law 256 = .ok (.if_icmp .eq 169, 3) := by decide +kernel
theorem dL_law_259 : decode cL_law 259 = .ok (.iconst 0, 1) := by decide +kernel
theorem dL_law_260 : decode cL_law 260 = .ok (.ireturn, 1) := by decide +kernel
theorem dL_law_261 : decode cL_law 261 = .ok (.aload_n 1, 1) := by decide +kernel
theorem dL_law_262 : decode cL_law 262 = .ok (.invokevirtual 38, 3) := by decide +kernel
theorem dL_law_265 : decode cL_law 265 = .ok (.aload_n 2, 1) := by decide +kernel
theorem dL_law_266 : decode cL_law 266 = .ok (.invokevirtual 41, 3) := by decide +kernel
theorem dL_law_269 : decode cL_law 269 = .ok (.if_icmp .eq 156, 3) := by decide +kernel
theorem dL_law_272 : decode cL_law 272 = .ok (.iconst 0, 1) := by decide +kernel
theorem dL_law_273 : decode cL_law 273 = .ok (.ireturn, 1) := by decide +kernel
theorem dL_law_274 : decode cL_law 274 = .ok (.aload_n 1, 1) := by decide +kernel
theorem dL_law_275 : decode cL_law 275 = .ok (.invokevirtual 42, 3) := by decide +kernel
theorem dL_law_278 : decode cL_law 278 = .ok (.aload_n 2, 1) := by decide +kernel
theorem dL_law_279 : decode cL_law 279 = .ok (.invokevirtual 45, 3) := by decide +kernel
theorem dL_law_282 : decode cL_law 282 = .ok (.if_icmp .eq 143, 3) := by decide +kernel
theorem dL_law_285 : decode cL_law 285 = .ok (.iconst 0, 1) := by decide +kernel
theorem dL_law_286 : decode cL_law 286 = .ok (.ireturn, 1) := by decide +kernel
theorem dL_law_287 : decode cL_law 287 = .ok (.aload_n 1, 1) := by decide +kernel
theorem dL_law_288 : decode cL_law 288 = .ok (.aload_n 0, 1) := by decide +kernel
theorem dL_law_289 : decode cL_law 289 = .ok (.iload_n 3, 1) := by decide +kernel
theorem dL_law_290 : decode cL_law 290 = .ok (.iconst 1, 1) := by decide +kernel
theorem dL_law_291 : decode cL_law 291 = .ok (.iadd, 1) := by decide +kernel
theorem dL_law_292 : decode cL_law 292 = .ok (.iaload, 1) := by decide +kernel
theorem dL_law_293 : decode cL_law 293 = .ok (.invokevirtual 46, 3) := by decide +kernel
theorem dL_law_296 : decode cL_law 296 = .ok (.aload_n 2, 1) := by decide +kernel
theorem dL_law_297 : decode cL_law 297 = .ok (.aload_n 0, 1) := by decide +kernel
theorem dL_law_298 : decode cL_law 298 = .ok (.iload_n 3, 1) := by decide +kernel
theorem dL_law_299 : decode cL_law 299 = .ok (.iconst 1, 1) := by decide +kernel
theorem dL_law_300 : decode cL_law 300 = .ok (.iadd, 1) := by decide +kernel
theorem dL_law_301 : decode cL_law 301 = .ok (.iaload, 1) := by decide +kernel
theorem dL_law_302 : decode cL_law 302 = .ok (.invokevirtual 50, 3) := by decide +kernel
theorem dL_law_305 : decode cL_law 305 = .ok (.if_icmp .eq 120, 3) := by decide +kernel
theorem dL_law_308 : decode cL_law 308 = .ok (.iconst 0, 1) := by decide +kernel
theorem dL_law_309 : decode cL_law 309 = .ok (.ireturn, 1) := by decide +kernel
theorem dL_law_310 : decode cL_law 310 = .ok (.aload_n 1, 1) := by decide +kernel
theorem dL_law_311 : decode cL_law 311 = .ok (.aload_n 0, 1) := by decide +kernel
theorem dL_law_312 : decode cL_law 312 = .ok (.iload_n 3, 1) := by decide +kernel
theorem dL_law_313 : decode cL_law 313 = .ok (.iconst 1, 1) := by decide +kernel
theorem dL_law_314 : decode cL_law 314 = .ok (.iadd, 1) := by decide +kernel
theorem dL_law_315 : decode cL_law 315 = .ok (.iaload, 1) := by decide +kernel
theorem dL_law_316 : decode cL_law 316 = .ok (.invokevirtual 51, 3) := by decide +kernel
theorem dL_law_319 : decode cL_law 319 = .ok (.aload_n 2, 1) := by decide +kernel
theorem dL_law_320 : decode cL_law 320 = .ok (.aload_n 0, 1) := by decide +kernel
theorem dL_law_321 : decode cL_law 321 = .ok (.iload_n 3, 1) := by decide +kernel
theorem dL_law_322 : decode cL_law 322 = .ok (.iconst 1, 1) := by decide +kernel
theorem dL_law_323 : decode cL_law 323 = .ok (.iadd, 1) := by decide +kernel
theorem dL_law_324 : decode cL_law 324 = .ok (.iaload, 1) := by decide +kernel
theorem dL_law_325 : decode cL_law 325 = .ok (.invokevirtual 54, 3) := by decide +kernel
theorem dL_law_328 : decode cL_law 328 = .ok (.if_icmp .eq 97, 3) := by decide +kernel
theorem dL_law_331 : decode cL_law 331 = .ok (.iconst 0, 1) := by decide +kernel
theorem dL_law_332 : decode cL_law 332 = .ok (.ireturn, 1) := by decide +kernel
theorem dL_law_333 : decode cL_law 333 = .ok (.aload_n 1, 1) := by decide +kernel
theorem dL_law_334 : decode cL_law 334 = .ok (.aload_n 0, 1) := by decide +kernel
theorem dL_law_335 : decode cL_law 335 = .ok (.iload_n 3, 1) := by decide +kernel
theorem dL_law_336 : decode cL_law 336 = .ok (.iconst 1, 1) := by decide +kernel
theorem dL_law_337 : decode cL_law 337 = .ok (.iadd, 1) := by decide +kernel
theorem dL_law_338 : decode cL_law 338 = .ok (.iaload, 1) := by decide +kernel
theorem dL_law_339 : decode cL_law 339 = .ok (.invokevirtual 55, 3) := by decide +kernel
theorem dL_law_342 : decode cL_law 342 = .ok (.aload_n 2, 1) := by decide +kernel
theorem dL_law_343 : decode cL_law 343 = .ok (.aload_n 0, 1) := by decide +kernel
theorem dL_law_344 : decode cL_law 344 = .ok (.iload_n 3, 1) := by decide +kernel
theorem dL_law_345 : decode cL_law 345 = .ok (.iconst 1, 1) := by decide +kernel
theorem dL_law_346 : decode cL_law 346 = .ok (.iadd, 1) := by decide +kernel
theorem dL_law_347 : decode cL_law 347 = .ok (.iaload, 1) := by decide +kernel
theorem dL_law_348 : decode cL_law 348 = .ok (.invokevirtual 58, 3) := by decide +kernel
theorem dL_law_351 : decode cL_law 351 = .ok (.if_icmp .eq 74, 3) := by decide +kernel
theorem dL_law_354 : decode cL_law 354 = .ok (.iconst 0, 1) := by decide +kernel
theorem dL_law_355 : decode cL_law 355 = .ok (.ireturn, 1) := by decide +kernel
theorem dL_law_356 : decode cL_law 356 = .ok (.aload_n 1, 1) := by decide +kernel
theorem dL_law_357 : decode cL_law 357 = .ok (.aload_n 0, 1) := by decide +kernel
theorem dL_law_358 : decode cL_law 358 = .ok (.iload_n 3, 1) := by decide +kernel
theorem dL_law_359 : decode cL_law 359 = .ok (.iconst 1, 1) := by decide +kernel
theorem dL_law_360 : decode cL_law 360 = .ok (.iadd, 1) := by decide +kernel
theorem dL_law_361 : decode cL_law 361 = .ok (.iaload, 1) := by decide +kernel
theorem dL_law_362 : decode cL_law 362 = .ok (.invokevirtual 59, 3) := by decide +kernel
theorem dL_law_365 : decode cL_law 365 = .ok (.aload_n 2, 1) := by decide +kernel
theorem dL_law_366 : decode cL_law 366 = .ok (.aload_n 0, 1) := by decide +kernel
theorem dL_law_367 : decode cL_law 367 = .ok (.iload_n 3, 1) := by decide +kernel
theorem dL_law_368 : decode cL_law 368 = .ok (.iconst 1, 1) := by decide +kernel
theorem dL_law_369 : decode cL_law 369 = .ok (.iadd, 1) := by decide +kernel
theorem dL_law_370 : decode cL_law 370 = .ok (.iaload, 1) := by decide +kernel
theorem dL_law_371 : decode cL_law 371 = .ok (.invokevirtual 62, 3) := by decide +kernel
theorem dL_law_374 : decode cL_law 374 = .ok (.if_icmp .eq 51, 3) := by decide +kernel
theorem dL_law_377 : decode cL_law 377 = .ok (.iconst 0, 1) := by decide +kernel
theorem dL_law_378 : decode cL_law 378 = .ok (.ireturn, 1) := by decide +kernel
theorem dL_law_379 : decode cL_law 379 = .ok (.aload_n 1, 1) := by decide +kernel
theorem dL_law_380 : decode cL_law 380 = .ok (.aload_n 0, 1) := by decide +kernel
theorem dL_law_381 : decode cL_law 381 = .ok (.iload_n 3, 1) := by decide +kernel
theorem dL_law_382 : decode cL_law 382 = .ok (.iconst 1, 1) := by decide +kernel
theorem dL_law_383 : decode cL_law 383 = .ok (.iadd, 1) := by decide +kernel
theorem dL_law_384 : decode cL_law 384 = .ok (.iaload, 1) := by decide +kernel
theorem dL_law_385 : decode cL_law 385 = .ok (.aload_n 0, 1) := by decide +kernel
theorem dL_law_386 : decode cL_law 386 = .ok (.iload_n 3, 1) := by decide +kernel
theorem dL_law_387 : decode cL_law 387 = .ok (.iconst 2, 1) := by decide +kernel
theorem dL_law_388 : decode cL_law 388 = .ok (.iadd, 1) := by decide +kernel
theorem dL_law_389 : decode cL_law 389 = .ok (.iaload, 1) := by decide +kernel
theorem dL_law_390 : decode cL_law 390 = .ok (.invokevirtual 63, 3) := by decide +kernel
theorem dL_law_393 : decode cL_law 393 = .ok (.aload_n 2, 1) := by decide +kernel
theorem dL_law_394 : decode cL_law 394 = .ok (.aload_n 0, 1) := by decide +kernel
theorem dL_law_395 : decode cL_law 395 = .ok (.iload_n 3, 1) := by decide +kernel
theorem dL_law_396 : decode cL_law 396 = .ok (.iconst 1, 1) := by decide +kernel
theorem dL_law_397 : decode cL_law 397 = .ok (.iadd, 1) := by decide +kernel
theorem dL_law_398 : decode cL_law 398 = .ok (.iaload, 1) := by decide +kernel
theorem dL_law_399 : decode cL_law 399 = .ok (.aload_n 0, 1) := by decide +kernel
theorem dL_law_400 : decode cL_law 400 = .ok (.iload_n 3, 1) := by decide +kernel
theorem dL_law_401 : decode cL_law 401 = .ok (.iconst 2, 1) := by decide +kernel
theorem dL_law_402 : decode cL_law 402 = .ok (.iadd, 1) := by decide +kernel
theorem dL_law_403 : decode cL_law 403 = .ok (.iaload, 1) := by decide +kernel
theorem dL_law_404 : decode cL_law 404 = .ok (.invokevirtual 66, 3) := by decide +kernel
theorem dL_law_407 : decode cL_law 407 = .ok (.if_icmp .eq 18, 3) := by decide +kernel
theorem dL_law_410 : decode cL_law 410 = .ok (.iconst 0, 1) := by decide +kernel
theorem dL_law_411 : decode cL_law 411 = .ok (.ireturn, 1) := by decide +kernel
theorem dL_law_412 : decode cL_law 412 = .ok (.aload_n 1, 1) := by decide +kernel
theorem dL_law_413 : decode cL_law 413 = .ok (.invokevirtual 67, 3) := by decide +kernel
theorem dL_law_416 : decode cL_law 416 = .ok (.aload_n 2, 1) := by decide +kernel
theorem dL_law_417 : decode cL_law 417 = .ok (.invokevirtual 70, 3) := by decide +kernel
theorem dL_law_420 : decode cL_law 420 = .ok (.if_icmp .eq 5, 3) := by decide +kernel
theorem dL_law_423 : decode cL_law 423 = .ok (.iconst 0, 1) := by decide +kernel
theorem dL_law_424 : decode cL_law 424 = .ok (.ireturn, 1) := by decide +kernel
theorem dL_law_425 : decode cL_law 425 = .ok (.iinc 3 4, 3) := by decide +kernel
theorem dL_law_428 : decode cL_law 428 = .ok (.goto (-410), 3) := by decide +kernel
theorem dL_law_431 : decode cL_law 431 = .ok (.iconst 1, 1) := by decide +kernel
theorem dL_law_432 : decode cL_law 432 = .ok (.ireturn, 1) := by decide +kernel
theorem dJ0_init_0 : decode cJ0_init 0 = .ok (.return_, 1) := by decide +kernel
end
section
/-! The bundled judgement: gG E pc lv st u: the machine at pc with locals lv, stack st, in any heap that holds the picture u, comes to the end that E names -/
abbrev vwCl : List vw_C := [(RX0, TX0, 19), (RX1, TX1, 13)]
abbrev dS : Type := (Nat → Int32) × (Nat → Nat → Int32)
abbrev gE (S : Type) : Type := Program × Launch × Env × Room × State × MethodId × Array Value × List Frame × Method × Code × (State → Prop) × va_G × List (ClassId × FieldType) × (S → va_W) × (Nat → Prop) × Nat × Nat × Nat
def g_lv (ls : Array Slot) (nL : Nat) (lv : List (Option Value)) : Prop :=
  ls.size = nL ∧ lv_wf ls ∧ lv.length = nL ∧ ∀ (i : Nat) (v : Value), lv[i]? = some (some v) → v.category = 1 ∧ ls[i]? = some (.val v)
def g_toL (lv : List (Option Value)) : List (Nat × Value) := (List.range lv.length).filterMap (fun i => match lv[i]? with | some (some v) => some (i, v) | _ => none)
theorem g_mem {lv : List (Option Value)} {i : Nat} {v : Value} : (i, v) ∈ g_toL lv ↔ lv[i]? = some (some v) := by
  unfold g_toL
  rw [List.mem_filterMap]
  constructor
  · rintro ⟨j, -, hj⟩
    split at hj
    · rename_i v' h
      simp only [Option.some.injEq, Prod.mk.injEq] at hj
      obtain ⟨rfl, rfl⟩ := hj
      exact h
    · cases hj
  · intro h
    refine ⟨i, List.mem_range.mpr (List.getElem?_eq_some_iff.mp h).1, ?_⟩
    simp only [h]
theorem g_lv.has {ls : Array Slot} {nL : Nat} {lv : List (Option Value)} (h : g_lv ls nL lv) : lv_has ls nL (g_toL lv) := ⟨h.1, h.2.1, fun q hq => (h.2.2.2 q.1 q.2 (g_mem.mp hq)).2⟩
theorem g_lv.put {ls ls' : Array Slot} {nL i : Nat} {v : Value} {lv : List (Option Value)} (h : g_lv ls nL lv) (hi : i < lv.length) (hc : v.category = 1) (h' : lv_has ls' nL ((i, v) :: (g_toL lv).filter (fun q => !(q.1 == i) && !(q.1 + 1 == i && q.2.category == 2)))) : g_lv ls' nL (lv.set i (some v)) := by
  refine ⟨h'.1, h'.2.1, by rw [List.length_set]; exact h.2.2.1, fun j x hj => ?_⟩
  rw [List.getElem?_set] at hj
  by_cases hij : i = j
  · subst hij
    rw [if_pos rfl, if_pos hi] at hj
    have hj : v = x := by simpa using hj
    subst hj
    exact ⟨hc, h'.2.2 (i, v) List.mem_cons_self⟩
  · rw [if_neg hij] at hj
    have hcx := (h.2.2.2 j x hj).1
    have hji : ¬ j = i := fun q => hij q.symm
    refine ⟨hcx, h'.2.2 (j, x) (List.mem_cons_of_mem _ (List.mem_filter.mpr ⟨g_mem.mpr hj, ?_⟩))⟩
    simp [hcx, hji]
theorem g_args : ∀ (vs : List Value) (k : Nat), (∀ v ∈ vs, v.category = 1) → ∀ (i : Nat) (v : Value), vs[i]? = some v → (k + i, v) ∈ lv_args k vs := by
  intro vs
  induction vs with
  | nil => intro k _ i v h; cases h
  | cons x vs ih =>
    intro k hc i v h
    have hx : x.category = 1 := hc x List.mem_cons_self
    have e : lv_args k (x :: vs) = (k, x) :: lv_args (k + 1) vs := by simp [lv_args, hx]
    rw [e]
    cases i with
    | zero => cases h; exact List.mem_cons_self
    | succ i =>
      have := ih (k + 1) (fun v hv => hc v (List.mem_cons_of_mem _ hv)) i v h
      rw [Nat.add_right_comm] at this
      exact List.mem_cons_of_mem _ this
theorem g_sl_len : ∀ (vs : List Value), (∀ v ∈ vs, v.category = 1) → (lg_sl vs).length = vs.length := by
  intro vs
  induction vs with
  | nil => intro _; rfl
  | cons x vs ih =>
    intro hc
    have hx : x.category = 1 := hc x List.mem_cons_self
    have := ih (fun v hv => hc v (List.mem_cons_of_mem _ hv))
    simp [lg_sl, hx] at this ⊢
    omega
theorem g_lv.entry {ls : Array Slot} {n : Nat} {vs : List Value} (h : lv_has ls n (lv_args 0 vs)) (hn : vs.length ≤ n) (hc : ∀ v ∈ vs, v.category = 1) : g_lv ls n (vs.map some ++ List.replicate (n - vs.length) none) := by
  refine ⟨h.1, h.2.1, by simp; omega, fun i v hi => ?_⟩
  by_cases hl : i < vs.length
  · rw [List.getElem?_append_left (by simpa using hl), List.getElem?_map] at hi
    cases hv : vs[i]? with
    | none => rw [hv] at hi; cases hi
    | some v' =>
      rw [hv] at hi
      have hvv : v' = v := by simpa using hi
      subst hvv
      have := h.2.2 _ (g_args vs 0 hc i v' hv)
      rw [Nat.zero_add] at this
      exact ⟨hc v' (List.mem_of_getElem? hv), this⟩
  · rw [List.getElem?_append_right (by simpa using Nat.le_of_not_lt hl), List.getElem?_replicate] at hi
    split at hi <;> simp at hi
def gG {S : Type} (E : gE S) (pc : Nat) (lv : List (Option Value)) (st : List Value) (u : S) : Prop := match E with
  | (p, l, e, R, s, m, args, below, meth, c, Q, D, tys, w, A, nL, cells, slots) =>
    ∀ (H : Heap) (locs : List Loc) (ls : Array Slot), va_K D vwCl tys s → va_P D vwCl (w u) H → va_D A (w u) → va_S A s.heap H locs → g_lv ls nL lv → W p l e R s m args below meth c H locs cells slots Q (F0 m pc ls st)
def gOk {S : Type} (E : gE S) (cc : ByteArray) (own : String) : Prop := match E with
  | (p, _, _, _, s, m, args, _, meth, c, _, _, _, _, A, nL, _, _) =>
    p.tables.exec = Jvm.exec ∧ c.code = cc ∧ c.maxLocals = nL ∧ s.vm.findClass own = some m.cls ∧ (∀ w ∈ lw_all, w.before args s = true) ∧ (∀ q : Nat, s.heap.size ≤ q → A q) ∧ meth.locks = false
def gR (f n : Nat) : Room := { frames := f, cells := 0, slots := 0, locals := n }
section
variable {S : Type} {E : gE S} {cc : ByteArray} {own : String} {pc : Nat} {lv : List (Option Value)} {st : List Value} {u : S}
theorem g_iconst (g : gOk E cc own) {n : Int} {v : Int32} (hd : decode cc pc = .ok (.iconst n, 1)) (hv : Int32.ofInt n = v) (kk : gG E (pc + 1) lv (.int v :: st) u) : gG E pc lv st u := by
  obtain ⟨p, l, e, R, s, m, args, below, meth, c, Q, D, tys, w, A, nL, cells, slots⟩ := E
  obtain ⟨hx, hb, hml, hown, hts, hA, hlk⟩ := g
  intro H locs ls hK hP hD hS h
  exact lv_iconst hx hb hd hv (kk H locs ls hK hP hD hS h)
theorem g_bipush (g : gOk E cc own) {n : Int} {v : Int32} (hd : decode cc pc = .ok (.bipush n, 2)) (hv : (Int8.ofInt n).toInt32 = v) (kk : gG E (pc + 2) lv (.int v :: st) u) : gG E pc lv st u := by
  obtain ⟨p, l, e, R, s, m, args, below, meth, c, Q, D, tys, w, A, nL, cells, slots⟩ := E
  obtain ⟨hx, hb, hml, hown, hts, hA, hlk⟩ := g
  intro H locs ls hK hP hD hS h
  exact lv_bipush hx hb hd hv (kk H locs ls hK hP hD hS h)
theorem g_sipush (g : gOk E cc own) {n : Int} {v : Int32} (hd : decode cc pc = .ok (.sipush n, 3)) (hv : (Int16.ofInt n).toInt32 = v) (kk : gG E (pc + 3) lv (.int v :: st) u) : gG E pc lv st u := by
  obtain ⟨p, l, e, R, s, m, args, below, meth, c, Q, D, tys, w, A, nL, cells, slots⟩ := E
  obtain ⟨hx, hb, hml, hown, hts, hA, hlk⟩ := g
  intro H locs ls hK hP hD hS h
  exact lv_sipush hx hb hd hv (kk H locs ls hK hP hD hS h)
theorem g_ldc (g : gOk E cc own) {index : Nat} {v : Int32} (hc : Cond.constant own index v ∈ lw_all) (hd : decode cc pc = .ok (.ldc index, 2)) (kk : gG E (pc + 2) lv (.int v :: st) u) : gG E pc lv st u := by
  obtain ⟨p, l, e, R, s, m, args, below, meth, c, Q, D, tys, w, A, nL, cells, slots⟩ := E
  obtain ⟨hx, hb, hml, hown, hts, hA, hlk⟩ := g
  intro H locs ls hK hP hD hS h
  exact lv_ldc hx hb hown (hts _ hc) hd (kk H locs ls hK hP hD hS h)
theorem g_iload_n (g : gOk E cc own) {k : Fin 4} {i : Nat} {x : Int32} (hd : decode cc pc = .ok (.iload_n k, 1)) (hi : (k : Nat) = i) (hl : lv[i]? = some (some (.int x))) (kk : gG E (pc + 1) lv (.int x :: st) u) : gG E pc lv st u := by
  obtain ⟨p, l, e, R, s, m, args, below, meth, c, Q, D, tys, w, A, nL, cells, slots⟩ := E
  obtain ⟨hx, hb, hml, hown, hts, hA, hlk⟩ := g
  intro H locs ls hK hP hD hS h
  exact lv_iload_n hx hb hd hi (h.2.2.2 i _ hl).2 (kk H locs ls hK hP hD hS h)
theorem g_iload (g : gOk E cc own) {i : Nat} {x : Int32} (hd : decode cc pc = .ok (.iload i, 2)) (hl : lv[i]? = some (some (.int x))) (kk : gG E (pc + 2) lv (.int x :: st) u) : gG E pc lv st u := by
  obtain ⟨p, l, e, R, s, m, args, below, meth, c, Q, D, tys, w, A, nL, cells, slots⟩ := E
  obtain ⟨hx, hb, hml, hown, hts, hA, hlk⟩ := g
  intro H locs ls hK hP hD hS h
  exact lv_iload hx hb hd (h.2.2.2 i _ hl).2 (kk H locs ls hK hP hD hS h)
theorem g_aload_n (g : gOk E cc own) {k : Fin 4} {i : Nat} {x : Nat} (hd : decode cc pc = .ok (.aload_n k, 1)) (hi : (k : Nat) = i) (hl : lv[i]? = some (some (.ref x))) (kk : gG E (pc + 1) lv (.ref x :: st) u) : gG E pc lv st u := by
  obtain ⟨p, l, e, R, s, m, args, below, meth, c, Q, D, tys, w, A, nL, cells, slots⟩ := E
  obtain ⟨hx, hb, hml, hown, hts, hA, hlk⟩ := g
  intro H locs ls hK hP hD hS h
  exact lv_aload_n hx hb hd hi (h.2.2.2 i _ hl).2 (kk H locs ls hK hP hD hS h)
theorem g_istore_n (g : gOk E cc own) {k : Fin 4} {i : Nat} {x : Int32} (hd : decode cc pc = .ok (.istore_n k, 1)) (hi : (k : Nat) = i) (hn : i < lv.length) (kk : gG E (pc + 1) (lv.set i (some (.int x))) st u) : gG E pc lv (.int x :: st) u := by
  obtain ⟨p, l, e, R, s, m, args, below, meth, c, Q, D, tys, w, A, nL, cells, slots⟩ := E
  obtain ⟨hx, hb, hml, hown, hts, hA, hlk⟩ := g
  intro H locs ls hK hP hD hS h
  exact lv_istore_n hx hb hd hi h.has (h.2.2.1 ▸ hn) rfl (fun ls' h' => kk H locs ls' hK hP hD hS (h.put hn rfl h'))
theorem g_istore (g : gOk E cc own) {i : Nat} {x : Int32} (hd : decode cc pc = .ok (.istore i, 2)) (hn : i < lv.length) (kk : gG E (pc + 2) (lv.set i (some (.int x))) st u) : gG E pc lv (.int x :: st) u := by
  obtain ⟨p, l, e, R, s, m, args, below, meth, c, Q, D, tys, w, A, nL, cells, slots⟩ := E
  obtain ⟨hx, hb, hml, hown, hts, hA, hlk⟩ := g
  intro H locs ls hK hP hD hS h
  exact lv_istore hx hb hd h.has (h.2.2.1 ▸ hn) rfl (fun ls' h' => kk H locs ls' hK hP hD hS (h.put hn rfl h'))
theorem g_astore_n (g : gOk E cc own) {k : Fin 4} {i : Nat} {x : Nat} (hd : decode cc pc = .ok (.astore_n k, 1)) (hi : (k : Nat) = i) (hn : i < lv.length) (kk : gG E (pc + 1) (lv.set i (some (.ref x))) st u) : gG E pc lv (.ref x :: st) u := by
  obtain ⟨p, l, e, R, s, m, args, below, meth, c, Q, D, tys, w, A, nL, cells, slots⟩ := E
  obtain ⟨hx, hb, hml, hown, hts, hA, hlk⟩ := g
  intro H locs ls hK hP hD hS h
  exact lv_astore_n hx hb hd hi h.has (h.2.2.1 ▸ hn) rfl (fun ls' h' => kk H locs ls' hK hP hD hS (h.put hn rfl h'))
theorem g_iinc (g : gOk E cc own) {i : Nat} {n : Int} {x v : Int32} (hd : decode cc pc = .ok (.iinc i n, 3)) (hl : lv[i]? = some (some (.int x))) (hv : x + Int32.ofInt n = v) (kk : gG E (pc + 3) (lv.set i (some (.int v))) st u) : gG E pc lv st u := by
  obtain ⟨p, l, e, R, s, m, args, below, meth, c, Q, D, tys, w, A, nL, cells, slots⟩ := E
  obtain ⟨hx, hb, hml, hown, hts, hA, hlk⟩ := g
  intro H locs ls hK hP hD hS h
  have hn : i < lv.length := (List.getElem?_eq_some_iff.mp hl).1
  obtain ⟨k, hk⟩ := List.getElem?_of_mem (g_mem.mpr hl)
  exact lv_iinc hx hb hd h.has hk hv (h.2.2.1 ▸ hn) rfl (fun ls' h' => kk H locs ls' hK hP hD hS (h.put hn rfl h'))
theorem g_iadd (g : gOk E cc own) {x y : Int32} (hd : decode cc pc = .ok (.iadd, 1)) (kk : gG E (pc + 1) lv (.int (x + y) :: st) u) : gG E pc lv (.int y :: .int x :: st) u := by
  obtain ⟨p, l, e, R, s, m, args, below, meth, c, Q, D, tys, w, A, nL, cells, slots⟩ := E
  obtain ⟨hx, hb, hml, hown, hts, hA, hlk⟩ := g
  intro H locs ls hK hP hD hS h
  exact lv_iadd hx hb hd (kk H locs ls hK hP hD hS h)
theorem g_isub (g : gOk E cc own) {x y : Int32} (hd : decode cc pc = .ok (.isub, 1)) (kk : gG E (pc + 1) lv (.int (x - y) :: st) u) : gG E pc lv (.int y :: .int x :: st) u := by
  obtain ⟨p, l, e, R, s, m, args, below, meth, c, Q, D, tys, w, A, nL, cells, slots⟩ := E
  obtain ⟨hx, hb, hml, hown, hts, hA, hlk⟩ := g
  intro H locs ls hK hP hD hS h
  exact lv_isub hx hb hd (kk H locs ls hK hP hD hS h)
theorem g_imul (g : gOk E cc own) {x y : Int32} (hd : decode cc pc = .ok (.imul, 1)) (kk : gG E (pc + 1) lv (.int (x * y) :: st) u) : gG E pc lv (.int y :: .int x :: st) u := by
  obtain ⟨p, l, e, R, s, m, args, below, meth, c, Q, D, tys, w, A, nL, cells, slots⟩ := E
  obtain ⟨hx, hb, hml, hown, hts, hA, hlk⟩ := g
  intro H locs ls hK hP hD hS h
  exact lv_imul hx hb hd (kk H locs ls hK hP hD hS h)
theorem g_iand (g : gOk E cc own) {x y : Int32} (hd : decode cc pc = .ok (.iand, 1)) (kk : gG E (pc + 1) lv (.int (x &&& y) :: st) u) : gG E pc lv (.int y :: .int x :: st) u := by
  obtain ⟨p, l, e, R, s, m, args, below, meth, c, Q, D, tys, w, A, nL, cells, slots⟩ := E
  obtain ⟨hx, hb, hml, hown, hts, hA, hlk⟩ := g
  intro H locs ls hK hP hD hS h
  exact lv_iand hx hb hd (kk H locs ls hK hP hD hS h)
theorem g_ior (g : gOk E cc own) {x y : Int32} (hd : decode cc pc = .ok (.ior, 1)) (kk : gG E (pc + 1) lv (.int (x ||| y) :: st) u) : gG E pc lv (.int y :: .int x :: st) u := by
  obtain ⟨p, l, e, R, s, m, args, below, meth, c, Q, D, tys, w, A, nL, cells, slots⟩ := E
  obtain ⟨hx, hb, hml, hown, hts, hA, hlk⟩ := g
  intro H locs ls hK hP hD hS h
  exact lv_ior hx hb hd (kk H locs ls hK hP hD hS h)
theorem g_ixor (g : gOk E cc own) {x y : Int32} (hd : decode cc pc = .ok (.ixor, 1)) (kk : gG E (pc + 1) lv (.int (x ^^^ y) :: st) u) : gG E pc lv (.int y :: .int x :: st) u := by
  obtain ⟨p, l, e, R, s, m, args, below, meth, c, Q, D, tys, w, A, nL, cells, slots⟩ := E
  obtain ⟨hx, hb, hml, hown, hts, hA, hlk⟩ := g
  intro H locs ls hK hP hD hS h
  exact lv_ixor hx hb hd (kk H locs ls hK hP hD hS h)
theorem g_ishl (g : gOk E cc own) {x y : Int32} (hd : decode cc pc = .ok (.ishl, 1)) (kk : gG E (pc + 1) lv (.int (x <<< (y &&& 31)) :: st) u) : gG E pc lv (.int y :: .int x :: st) u := by
  obtain ⟨p, l, e, R, s, m, args, below, meth, c, Q, D, tys, w, A, nL, cells, slots⟩ := E
  obtain ⟨hx, hb, hml, hown, hts, hA, hlk⟩ := g
  intro H locs ls hK hP hD hS h
  exact lv_ishl hx hb hd (kk H locs ls hK hP hD hS h)
theorem g_ishr (g : gOk E cc own) {x y : Int32} (hd : decode cc pc = .ok (.ishr, 1)) (kk : gG E (pc + 1) lv (.int (x >>> (y &&& 31)) :: st) u) : gG E pc lv (.int y :: .int x :: st) u := by
  obtain ⟨p, l, e, R, s, m, args, below, meth, c, Q, D, tys, w, A, nL, cells, slots⟩ := E
  obtain ⟨hx, hb, hml, hown, hts, hA, hlk⟩ := g
  intro H locs ls hK hP hD hS h
  exact lv_ishr hx hb hd (kk H locs ls hK hP hD hS h)
theorem g_i2b (g : gOk E cc own) {x v : Int32} (hd : decode cc pc = .ok (.i2b, 1)) (hv : x.toInt8.toInt32 = v) (kk : gG E (pc + 1) lv (.int v :: st) u) : gG E pc lv (.int x :: st) u := by
  obtain ⟨p, l, e, R, s, m, args, below, meth, c, Q, D, tys, w, A, nL, cells, slots⟩ := E
  obtain ⟨hx, hb, hml, hown, hts, hA, hlk⟩ := g
  intro H locs ls hK hP hD hS h
  exact lv_i2b hx hb hd hv (kk H locs ls hK hP hD hS h)
theorem g_dup (g : gOk E cc own) {v : Value} (hd : decode cc pc = .ok (.dup, 1)) (hv : v.category = 1) (kk : gG E (pc + 1) lv (v :: v :: st) u) : gG E pc lv (v :: st) u := by
  obtain ⟨p, l, e, R, s, m, args, below, meth, c, Q, D, tys, w, A, nL, cells, slots⟩ := E
  obtain ⟨hx, hb, hml, hown, hts, hA, hlk⟩ := g
  intro H locs ls hK hP hD hS h
  exact lv_dup hx hb hd hv (kk H locs ls hK hP hD hS h)
theorem g_pop (g : gOk E cc own) {v : Value} (hd : decode cc pc = .ok (.pop, 1)) (hv : v.category = 1) (kk : gG E (pc + 1) lv st u) : gG E pc lv (v :: st) u := by
  obtain ⟨p, l, e, R, s, m, args, below, meth, c, Q, D, tys, w, A, nL, cells, slots⟩ := E
  obtain ⟨hx, hb, hml, hown, hts, hA, hlk⟩ := g
  intro H locs ls hK hP hD hS h
  exact lv_pop hx hb hd hv (kk H locs ls hK hP hD hS h)
theorem g_dup2 (g : gOk E cc own) {v v' : Value} (hd : decode cc pc = .ok (.dup2, 1)) (hv : v.category = 1) (hv' : v'.category = 1) (kk : gG E (pc + 1) lv (v :: v' :: v :: v' :: st) u) : gG E pc lv (v :: v' :: st) u := by
  obtain ⟨p, l, e, R, s, m, args, below, meth, c, Q, D, tys, w, A, nL, cells, slots⟩ := E
  obtain ⟨hx, hb, hml, hown, hts, hA, hlk⟩ := g
  intro H locs ls hK hP hD hS h
  exact lv_dup2_11 hx hb hd hv hv' (kk H locs ls hK hP hD hS h)
theorem g_goto (g : gOk E cc own) {off : Int} {tgt : Nat} (hd : decode cc pc = .ok (.goto off, 3)) (ht : (pc : Int) + off = (tgt : Int)) (kk : gG E tgt lv st u) : gG E pc lv st u := by
  obtain ⟨p, l, e, R, s, m, args, below, meth, c, Q, D, tys, w, A, nL, cells, slots⟩ := E
  obtain ⟨hx, hb, hml, hown, hts, hA, hlk⟩ := g
  intro H locs ls hK hP hD hS h
  exact lv_goto hx hb hd ht (kk H locs ls hK hP hD hS h)
theorem g_ifeq (g : gOk E cc own) {x : Int32} {off : Int} {tgt : Nat} {X : Prop} (hd : decode cc pc = .ok (.ifCond .eq off, 3)) (ht : (pc : Int) + off = (tgt : Int)) (iff : (x = 0) ↔ X) (kt : X → gG E tgt lv st u) (kf : ¬ X → gG E (pc + 3) lv st u) : gG E pc lv (.int x :: st) u := by
  obtain ⟨p, l, e, R, s, m, args, below, meth, c, Q, D, tys, w, A, nL, cells, slots⟩ := E
  obtain ⟨hx, hb, hml, hown, hts, hA, hlk⟩ := g
  intro H locs ls hK hP hD hS h
  exact lv_if_eq hx hb hd ht (fun q => kt (iff.mp q) H locs ls hK hP hD hS h) (fun q => kf (fun z => q (iff.mpr z)) H locs ls hK hP hD hS h)
theorem g_cmpeq (g : gOk E cc own) {x y : Int32} {off : Int} {tgt : Nat} {X : Prop} (hd : decode cc pc = .ok (.if_icmp .eq off, 3)) (ht : (pc : Int) + off = (tgt : Int)) (iff : (x = y) ↔ X) (kt : X → gG E tgt lv st u) (kf : ¬ X → gG E (pc + 3) lv st u) : gG E pc lv (.int y :: .int x :: st) u := by
  obtain ⟨p, l, e, R, s, m, args, below, meth, c, Q, D, tys, w, A, nL, cells, slots⟩ := E
  obtain ⟨hx, hb, hml, hown, hts, hA, hlk⟩ := g
  intro H locs ls hK hP hD hS h
  exact lv_icmp_eq hx hb hd ht (fun q => kt (iff.mp q) H locs ls hK hP hD hS h) (fun q => kf (fun z => q (iff.mpr z)) H locs ls hK hP hD hS h)
theorem g_ifne (g : gOk E cc own) {x : Int32} {off : Int} {tgt : Nat} {X : Prop} (hd : decode cc pc = .ok (.ifCond .ne off, 3)) (ht : (pc : Int) + off = (tgt : Int)) (iff : (x = 0) ↔ X) (kt : ¬ X → gG E tgt lv st u) (kf : X → gG E (pc + 3) lv st u) : gG E pc lv (.int x :: st) u := by
  obtain ⟨p, l, e, R, s, m, args, below, meth, c, Q, D, tys, w, A, nL, cells, slots⟩ := E
  obtain ⟨hx, hb, hml, hown, hts, hA, hlk⟩ := g
  intro H locs ls hK hP hD hS h
  exact lv_if_ne hx hb hd ht (fun q => kt (fun z => q (iff.mpr z)) H locs ls hK hP hD hS h) (fun q => kf (iff.mp q) H locs ls hK hP hD hS h)
theorem g_cmpne (g : gOk E cc own) {x y : Int32} {off : Int} {tgt : Nat} {X : Prop} (hd : decode cc pc = .ok (.if_icmp .ne off, 3)) (ht : (pc : Int) + off = (tgt : Int)) (iff : (x = y) ↔ X) (kt : ¬ X → gG E tgt lv st u) (kf : X → gG E (pc + 3) lv st u) : gG E pc lv (.int y :: .int x :: st) u := by
  obtain ⟨p, l, e, R, s, m, args, below, meth, c, Q, D, tys, w, A, nL, cells, slots⟩ := E
  obtain ⟨hx, hb, hml, hown, hts, hA, hlk⟩ := g
  intro H locs ls hK hP hD hS h
  exact lv_icmp_ne hx hb hd ht (fun q => kt (fun z => q (iff.mpr z)) H locs ls hK hP hD hS h) (fun q => kf (iff.mp q) H locs ls hK hP hD hS h)
theorem g_iflt (g : gOk E cc own) {x : Int32} {off : Int} {tgt : Nat} {X : Prop} (hd : decode cc pc = .ok (.ifCond .lt off, 3)) (ht : (pc : Int) + off = (tgt : Int)) (iff : (x < 0) ↔ X) (kt : X → gG E tgt lv st u) (kf : ¬ X → gG E (pc + 3) lv st u) : gG E pc lv (.int x :: st) u := by
  obtain ⟨p, l, e, R, s, m, args, below, meth, c, Q, D, tys, w, A, nL, cells, slots⟩ := E
  obtain ⟨hx, hb, hml, hown, hts, hA, hlk⟩ := g
  intro H locs ls hK hP hD hS h
  exact lv_if_lt hx hb hd ht (fun q => kt (iff.mp q) H locs ls hK hP hD hS h) (fun q => kf (fun z => q (iff.mpr z)) H locs ls hK hP hD hS h)
theorem g_cmplt (g : gOk E cc own) {x y : Int32} {off : Int} {tgt : Nat} {X : Prop} (hd : decode cc pc = .ok (.if_icmp .lt off, 3)) (ht : (pc : Int) + off = (tgt : Int)) (iff : (x < y) ↔ X) (kt : X → gG E tgt lv st u) (kf : ¬ X → gG E (pc + 3) lv st u) : gG E pc lv (.int y :: .int x :: st) u := by
  obtain ⟨p, l, e, R, s, m, args, below, meth, c, Q, D, tys, w, A, nL, cells, slots⟩ := E
  obtain ⟨hx, hb, hml, hown, hts, hA, hlk⟩ := g
  intro H locs ls hK hP hD hS h
  exact lv_icmp_lt hx hb hd ht (fun q => kt (iff.mp q) H locs ls hK hP hD hS h) (fun q => kf (fun z => q (iff.mpr z)) H locs ls hK hP hD hS h)
theorem g_ifge (g : gOk E cc own) {x : Int32} {off : Int} {tgt : Nat} {X : Prop} (hd : decode cc pc = .ok (.ifCond .ge off, 3)) (ht : (pc : Int) + off = (tgt : Int)) (iff : (0 ≤ x) ↔ X) (kt : X → gG E tgt lv st u) (kf : ¬ X → gG E (pc + 3) lv st u) : gG E pc lv (.int x :: st) u := by
  obtain ⟨p, l, e, R, s, m, args, below, meth, c, Q, D, tys, w, A, nL, cells, slots⟩ := E
  obtain ⟨hx, hb, hml, hown, hts, hA, hlk⟩ := g
  intro H locs ls hK hP hD hS h
  exact lv_if_ge hx hb hd ht (fun q => kt (iff.mp q) H locs ls hK hP hD hS h) (fun q => kf (fun z => q (iff.mpr z)) H locs ls hK hP hD hS h)
theorem g_cmpge (g : gOk E cc own) {x y : Int32} {off : Int} {tgt : Nat} {X : Prop} (hd : decode cc pc = .ok (.if_icmp .ge off, 3)) (ht : (pc : Int) + off = (tgt : Int)) (iff : (y ≤ x) ↔ X) (kt : X → gG E tgt lv st u) (kf : ¬ X → gG E (pc + 3) lv st u) : gG E pc lv (.int y :: .int x :: st) u := by
  obtain ⟨p, l, e, R, s, m, args, below, meth, c, Q, D, tys, w, A, nL, cells, slots⟩ := E
  obtain ⟨hx, hb, hml, hown, hts, hA, hlk⟩ := g
  intro H locs ls hK hP hD hS h
  exact lv_icmp_ge hx hb hd ht (fun q => kt (iff.mp q) H locs ls hK hP hD hS h) (fun q => kf (fun z => q (iff.mpr z)) H locs ls hK hP hD hS h)
theorem g_ifgt (g : gOk E cc own) {x : Int32} {off : Int} {tgt : Nat} {X : Prop} (hd : decode cc pc = .ok (.ifCond .gt off, 3)) (ht : (pc : Int) + off = (tgt : Int)) (iff : (0 < x) ↔ X) (kt : X → gG E tgt lv st u) (kf : ¬ X → gG E (pc + 3) lv st u) : gG E pc lv (.int x :: st) u := by
  obtain ⟨p, l, e, R, s, m, args, below, meth, c, Q, D, tys, w, A, nL, cells, slots⟩ := E
  obtain ⟨hx, hb, hml, hown, hts, hA, hlk⟩ := g
  intro H locs ls hK hP hD hS h
  exact lv_if_gt hx hb hd ht (fun q => kt (iff.mp q) H locs ls hK hP hD hS h) (fun q => kf (fun z => q (iff.mpr z)) H locs ls hK hP hD hS h)
theorem g_cmpgt (g : gOk E cc own) {x y : Int32} {off : Int} {tgt : Nat} {X : Prop} (hd : decode cc pc = .ok (.if_icmp .gt off, 3)) (ht : (pc : Int) + off = (tgt : Int)) (iff : (y < x) ↔ X) (kt : X → gG E tgt lv st u) (kf : ¬ X → gG E (pc + 3) lv st u) : gG E pc lv (.int y :: .int x :: st) u := by
  obtain ⟨p, l, e, R, s, m, args, below, meth, c, Q, D, tys, w, A, nL, cells, slots⟩ := E
  obtain ⟨hx, hb, hml, hown, hts, hA, hlk⟩ := g
  intro H locs ls hK hP hD hS h
  exact lv_icmp_gt hx hb hd ht (fun q => kt (iff.mp q) H locs ls hK hP hD hS h) (fun q => kf (fun z => q (iff.mpr z)) H locs ls hK hP hD hS h)
theorem g_ifle (g : gOk E cc own) {x : Int32} {off : Int} {tgt : Nat} {X : Prop} (hd : decode cc pc = .ok (.ifCond .le off, 3)) (ht : (pc : Int) + off = (tgt : Int)) (iff : (x ≤ 0) ↔ X) (kt : X → gG E tgt lv st u) (kf : ¬ X → gG E (pc + 3) lv st u) : gG E pc lv (.int x :: st) u := by
  obtain ⟨p, l, e, R, s, m, args, below, meth, c, Q, D, tys, w, A, nL, cells, slots⟩ := E
  obtain ⟨hx, hb, hml, hown, hts, hA, hlk⟩ := g
  intro H locs ls hK hP hD hS h
  exact lv_if_le hx hb hd ht (fun q => kt (iff.mp q) H locs ls hK hP hD hS h) (fun q => kf (fun z => q (iff.mpr z)) H locs ls hK hP hD hS h)
theorem g_cmple (g : gOk E cc own) {x y : Int32} {off : Int} {tgt : Nat} {X : Prop} (hd : decode cc pc = .ok (.if_icmp .le off, 3)) (ht : (pc : Int) + off = (tgt : Int)) (iff : (x ≤ y) ↔ X) (kt : X → gG E tgt lv st u) (kf : ¬ X → gG E (pc + 3) lv st u) : gG E pc lv (.int y :: .int x :: st) u := by
  obtain ⟨p, l, e, R, s, m, args, below, meth, c, Q, D, tys, w, A, nL, cells, slots⟩ := E
  obtain ⟨hx, hb, hml, hown, hts, hA, hlk⟩ := g
  intro H locs ls hK hP hD hS h
  exact lv_icmp_le hx hb hd ht (fun q => kt (iff.mp q) H locs ls hK hP hD hS h) (fun q => kf (fun z => q (iff.mpr z)) H locs ls hK hP hD hS h)
theorem g_top {x v : Int32} (h : x = v) (kk : gG E pc lv (.int v :: st) u) : gG E pc lv (.int x :: st) u := h ▸ kk
theorem g_st {u' : S} (h : u = u') (kk : gG E pc lv st u') : gG E pc lv st u := h ▸ kk
theorem g_loc {lv' : List (Option Value)} (h : lv = lv') (kk : gG E pc lv' st u) : gG E pc lv st u := h ▸ kk
theorem g_less {lv' : List (Option Value)} (h : lv.length = lv'.length) (hl : ∀ (i : Nat) (v : Value), lv'[i]? = some (some v) → lv[i]? = some (some v)) (kk : gG E pc lv' st u) : gG E pc lv st u := by
  obtain ⟨p, l, e, R, s, m, args, below, meth, c, Q, D, tys, w, A, nL, cells, slots⟩ := E
  intro H locs ls hK hP hD hS h0
  exact kk H locs ls hK hP hD hS ⟨h0.1, h0.2.1, h ▸ h0.2.2.1, fun i v hi => h0.2.2.2 i v (hl i v hi)⟩
theorem g_forget (i : Nat) (kk : gG E pc (lv.set i none) st u) : gG E pc lv st u := by
  refine g_less (by simp) (fun j v h => ?_) kk
  rw [List.getElem?_set] at h
  split at h
  · split at h <;> simp at h
  · exact h
end
/-! contracts: the picture u of an object's cells before, post of answer and picture behind -/
abbrev gC : Type := ((Nat → Nat) → (Nat → ClassId) → dS → va_W) × ((Nat → ClassId) → List (ClassId × FieldType))
def cOk (C : gC) (E : gE dS) (l0 : Launch) (f n : Nat) (a : Nat → Nat) : Prop := match E with
  | (_, l, _, R, _, _, _, _, _, _, _, _, tys, w, _, _, cells, slots) => l = l0 ∧ R = gR f n ∧ cells = 0 ∧ slots = 0 ∧ ∃ d, w = C.1 a d ∧ tys = C.2 d
def gB (C : gC) (D : va_G) (a : Nat → Nat) (d : Nat → ClassId) (u : dS) (sz : Nat) (U : State) : Prop := U.heap.size = sz ∧ va_P D vwCl (C.1 a d u) U.heap ∧ va_K D vwCl (C.2 d) U ∧ va_D (fun _ => True) (C.1 a d u)
def gT (C : gC) (D : va_G) (a : Nat → Nat) (d : Nat → ClassId) (u : dS) (sz : Nat) (u' : dS) (t : State) : Prop := va_P D vwCl (C.1 a d u') t.heap ∧ va_K D vwCl (C.2 d) t ∧ va_D (va_A (C.1 a d u) sz) (C.1 a d u')
def gMi (C : gC) (l : Launch) (y : MethodName) (b : ByteArray) (L : Nat) (r : Option FieldType) (rm : Room) (As : List Value) (u : dS) (post : Int32 → dS → Prop) : Prop := ∀ (D : va_G) (a : Nat → Nat) (d : Nat → ClassId) (sz : Nat), Met l y (ws_ y b L r) rm (va_Pc (.ref (a 0) :: As) (gB C D a d u sz)) (va_Qi post (gT C D a d u sz) (va_A (C.1 a d u) sz)) 0 0 (va_A (C.1 a d u) sz)
def gMv (C : gC) (l : Launch) (y : MethodName) (b : ByteArray) (L : Nat) (rm : Room) (As : List Value) (u : dS) (post : dS → Prop) : Prop := ∀ (D : va_G) (a : Nat → Nat) (d : Nat → ClassId) (sz : Nat), Met l y (ws_ y b L none) rm (va_Pc (.ref (a 0) :: As) (gB C D a d u sz)) (va_Qv post (gT C D a d u sz) (va_A (C.1 a d u) sz)) 0 0 (va_A (C.1 a d u) sz)
def gSi (C : gC) (l : Launch) (y : MethodName) (b : ByteArray) (L : Nat) (r : Option FieldType) (rm : Room) (As : List Value) (u : dS) (post : Int32 → dS → Prop) : Prop := ∀ (D : va_G) (a : Nat → Nat) (d : Nat → ClassId) (sz : Nat), Met l y (ws_ y b L r) rm (va_Pc As (gB C D a d u sz)) (va_Qi post (gT C D a d u sz) (va_A (C.1 a d u) sz)) 0 0 (va_A (C.1 a d u) sz)

set_option maxHeartbeats 1000000 in
theorem gMi_of {C : gC} {l : Launch} {y : MethodName} {b : ByteArray} {L f n : Nat} {As : List Value} {u : dS} {post : Int32 → dS → Prop} (hy : plainName y.cls = true) (hn : As.length + 1 ≤ L) (hc : ∀ v ∈ As, v.category = 1) (h : ∀ (E : gE dS) (a : Nat → Nat), gOk E b y.cls → cOk C E l f n a → (∀ (pc : Nat) (lv : List (Option Value)) (r : Int32) (u' : dS), decode b pc = .ok (.ireturn, 1) → post r u' → gG E pc lv [.int r] u') → gG E 0 ((.ref (a 0) :: As).map some ++ List.replicate (L - (As.length + 1)) none) [] u) : gMi C l y b L (some .int) (gR f n) As u post := by
  intro D a d sz
  refine Met.ofW (cc := b) (maxL := L) (ret := (some .int)) hy rfl ?_
  intro p e s m args below meth c s₁ B hml hv
  obtain ⟨rfl, hsz, hP, hK, hD0⟩ := hv
  have hx := B.exec
  have hb := B.bytes
  have hr := B.returns
  have hts0 := atoms_spec (ws := ws_ y b L (some .int)) B.pre
  have hts : ∀ w ∈ lw_all, w.before _ s = true := fun w h => hts0 w (List.mem_cons_of_mem _ h)
  have hown : s.vm.findClass y.cls = some m.cls := findClass_of_methodNamed B.named
  have hlocks := B.notSynchronized
  subst hsz
  have hD := hD0.self (sz := s.heap.size)
  have hA : ∀ q : Nat, s.heap.size ≤ q → va_A (C.1 a d u) s.heap.size q := fun q h => Or.inr h
  have hcv : ∀ v ∈ (.ref (a 0) :: As), v.category = 1 := fun v hv => by
    rcases List.mem_cons.mp hv with q | q
    · rw [q]; rfl
    · exact hc v q
  have hl := lv_entry (.ref (a 0) :: As) (n := L) (by rw [g_sl_len _ hcv]; exact hn)
  rw [lg_entry_eq]
  have key := h (p, l, e, gR f n, s, m, (.ref (a 0) :: As).toArray, below, meth, c, MQ below (va_Qi post (gT C D a d u s.heap.size) (va_A (C.1 a d u) s.heap.size)) (.ref (a 0) :: As).toArray s 0 0 (va_A (C.1 a d u) s.heap.size), D, C.2 d, C.1 a d, va_A (C.1 a d u) s.heap.size, L, 0, 0) a ⟨hx, hb, hml, hown, hts, hA, hlocks⟩ ⟨rfl, rfl, rfl, rfl, d, rfl, rfl⟩ ?_
  · exact key s.heap [] _ hK hP hD va_S.rf (g_lv.entry hl hn hcv)
  · intro pc lv r u' hd hp H locs ls hK hP hD hS hl
    exact W.iret hx hb hr (fun t ht hW => ⟨⟨r, u', rfl, hp, by rw [ht]; exact hP, va_K.moved hW.alike hK, hD⟩, hS.F ht⟩) hS.2.2 hd
set_option maxHeartbeats 1000000 in
theorem gMz_of {C : gC} {l : Launch} {y : MethodName} {b : ByteArray} {L f n : Nat} {As : List Value} {u : dS} {post : Int32 → dS → Prop} (hy : plainName y.cls = true) (hn : As.length + 1 ≤ L) (hc : ∀ v ∈ As, v.category = 1) (h : ∀ (E : gE dS) (a : Nat → Nat), gOk E b y.cls → cOk C E l f n a → (∀ (pc : Nat) (lv : List (Option Value)) (r : Int32) (u' : dS), decode b pc = .ok (.ireturn, 1) → (r = 0 ∨ r = 1) → post r u' → gG E pc lv [.int r] u') → gG E 0 ((.ref (a 0) :: As).map some ++ List.replicate (L - (As.length + 1)) none) [] u) : gMi C l y b L (some .boolean) (gR f n) As u post := by
  intro D a d sz
  refine Met.ofW (cc := b) (maxL := L) (ret := (some .boolean)) hy rfl ?_
  intro p e s m args below meth c s₁ B hml hv
  obtain ⟨rfl, hsz, hP, hK, hD0⟩ := hv
  have hx := B.exec
  have hb := B.bytes
  have hr := B.returns
  have hts0 := atoms_spec (ws := ws_ y b L (some .boolean)) B.pre
  have hts : ∀ w ∈ lw_all, w.before _ s = true := fun w h => hts0 w (List.mem_cons_of_mem _ h)
  have hown : s.vm.findClass y.cls = some m.cls := findClass_of_methodNamed B.named
  have hlocks := B.notSynchronized
  subst hsz
  have hD := hD0.self (sz := s.heap.size)
  have hA : ∀ q : Nat, s.heap.size ≤ q → va_A (C.1 a d u) s.heap.size q := fun q h => Or.inr h
  have hcv : ∀ v ∈ (.ref (a 0) :: As), v.category = 1 := fun v hv => by
    rcases List.mem_cons.mp hv with q | q
    · rw [q]; rfl
    · exact hc v q
  have hl := lv_entry (.ref (a 0) :: As) (n := L) (by rw [g_sl_len _ hcv]; exact hn)
  rw [lg_entry_eq]
  have key := h (p, l, e, gR f n, s, m, (.ref (a 0) :: As).toArray, below, meth, c, MQ below (va_Qi post (gT C D a d u s.heap.size) (va_A (C.1 a d u) s.heap.size)) (.ref (a 0) :: As).toArray s 0 0 (va_A (C.1 a d u) s.heap.size), D, C.2 d, C.1 a d, va_A (C.1 a d u) s.heap.size, L, 0, 0) a ⟨hx, hb, hml, hown, hts, hA, hlocks⟩ ⟨rfl, rfl, rfl, rfl, d, rfl, rfl⟩ ?_
  · exact key s.heap [] _ hK hP hD va_S.rf (g_lv.entry hl hn hcv)
  · intro pc lv r u' hd hz hp H locs ls hK hP hD hS hl
    exact W.zret hx hb hr (by rcases hz with rfl | rfl <;> rfl) (fun t ht hW => ⟨⟨r, u', rfl, hp, by rw [ht]; exact hP, va_K.moved hW.alike hK, hD⟩, hS.F ht⟩) hS.2.2 hd
set_option maxHeartbeats 1000000 in
theorem gMv_of {C : gC} {l : Launch} {y : MethodName} {b : ByteArray} {L f n : Nat} {As : List Value} {u : dS} {post : dS → Prop} (hy : plainName y.cls = true) (hn : As.length + 1 ≤ L) (hc : ∀ v ∈ As, v.category = 1) (h : ∀ (E : gE dS) (a : Nat → Nat), gOk E b y.cls → cOk C E l f n a → (∀ (pc : Nat) (lv : List (Option Value)) (u' : dS), decode b pc = .ok (.return_, 1) → post u' → gG E pc lv [] u') → gG E 0 ((.ref (a 0) :: As).map some ++ List.replicate (L - (As.length + 1)) none) [] u) : gMv C l y b L (gR f n) As u post := by
  intro D a d sz
  refine Met.ofW (cc := b) (maxL := L) (ret := none) hy rfl ?_
  intro p e s m args below meth c s₁ B hml hv
  obtain ⟨rfl, hsz, hP, hK, hD0⟩ := hv
  have hx := B.exec
  have hb := B.bytes
  have hr := B.returns
  have hts0 := atoms_spec (ws := ws_ y b L none) B.pre
  have hts : ∀ w ∈ lw_all, w.before _ s = true := fun w h => hts0 w (List.mem_cons_of_mem _ h)
  have hown : s.vm.findClass y.cls = some m.cls := findClass_of_methodNamed B.named
  have hlocks := B.notSynchronized
  subst hsz
  have hD := hD0.self (sz := s.heap.size)
  have hA : ∀ q : Nat, s.heap.size ≤ q → va_A (C.1 a d u) s.heap.size q := fun q h => Or.inr h
  have hcv : ∀ v ∈ (.ref (a 0) :: As), v.category = 1 := fun v hv => by
    rcases List.mem_cons.mp hv with q | q
    · rw [q]; rfl
    · exact hc v q
  have hl := lv_entry (.ref (a 0) :: As) (n := L) (by rw [g_sl_len _ hcv]; exact hn)
  rw [lg_entry_eq]
  have key := h (p, l, e, gR f n, s, m, (.ref (a 0) :: As).toArray, below, meth, c, MQ below (va_Qv post (gT C D a d u s.heap.size) (va_A (C.1 a d u) s.heap.size)) (.ref (a 0) :: As).toArray s 0 0 (va_A (C.1 a d u) s.heap.size), D, C.2 d, C.1 a d, va_A (C.1 a d u) s.heap.size, L, 0, 0) a ⟨hx, hb, hml, hown, hts, hA, hlocks⟩ ⟨rfl, rfl, rfl, rfl, d, rfl, rfl⟩ ?_
  · exact key s.heap [] _ hK hP hD va_S.rf (g_lv.entry hl hn hcv)
  · intro pc lv u' hd hp H locs ls hK hP hD hS hl
    exact W.vret hx hb hr (fun t ht hW => ⟨⟨u', rfl, hp, by rw [ht]; exact hP, va_K.moved hW.alike hK, hD⟩, hS.F ht⟩) hS.2.2 hd
set_option maxHeartbeats 1000000 in
theorem gSi_of {C : gC} {l : Launch} {y : MethodName} {b : ByteArray} {L f n : Nat} {As : List Value} {u : dS} {post : Int32 → dS → Prop} (hy : plainName y.cls = true) (hn : As.length ≤ L) (hc : ∀ v ∈ As, v.category = 1) (h : ∀ (E : gE dS) (a : Nat → Nat), gOk E b y.cls → cOk C E l f n a → (∀ (pc : Nat) (lv : List (Option Value)) (r : Int32) (u' : dS), decode b pc = .ok (.ireturn, 1) → post r u' → gG E pc lv [.int r] u') → gG E 0 (As.map some ++ List.replicate (L - (As.length)) none) [] u) : gSi C l y b L (some .int) (gR f n) As u post := by
  intro D a d sz
  refine Met.ofW (cc := b) (maxL := L) (ret := (some .int)) hy rfl ?_
  intro p e s m args below meth c s₁ B hml hv
  obtain ⟨rfl, hsz, hP, hK, hD0⟩ := hv
  have hx := B.exec
  have hb := B.bytes
  have hr := B.returns
  have hts0 := atoms_spec (ws := ws_ y b L (some .int)) B.pre
  have hts : ∀ w ∈ lw_all, w.before _ s = true := fun w h => hts0 w (List.mem_cons_of_mem _ h)
  have hown : s.vm.findClass y.cls = some m.cls := findClass_of_methodNamed B.named
  have hlocks := B.notSynchronized
  subst hsz
  have hD := hD0.self (sz := s.heap.size)
  have hA : ∀ q : Nat, s.heap.size ≤ q → va_A (C.1 a d u) s.heap.size q := fun q h => Or.inr h
  have hcv : ∀ v ∈ As, v.category = 1 := hc
  have hl := lv_entry As (n := L) (by rw [g_sl_len _ hcv]; exact hn)
  rw [lg_entry_eq]
  have key := h (p, l, e, gR f n, s, m, As.toArray, below, meth, c, MQ below (va_Qi post (gT C D a d u s.heap.size) (va_A (C.1 a d u) s.heap.size)) As.toArray s 0 0 (va_A (C.1 a d u) s.heap.size), D, C.2 d, C.1 a d, va_A (C.1 a d u) s.heap.size, L, 0, 0) a ⟨hx, hb, hml, hown, hts, hA, hlocks⟩ ⟨rfl, rfl, rfl, rfl, d, rfl, rfl⟩ ?_
  · exact key s.heap [] _ hK hP hD va_S.rf (g_lv.entry hl hn hcv)
  · intro pc lv r u' hd hp H locs ls hK hP hD hS hl
    exact W.iret hx hb hr (fun t ht hW => ⟨⟨r, u', rfl, hp, by rw [ht]; exact hP, va_K.moved hW.alike hK, hD⟩, hS.F ht⟩) hS.2.2 hd
set_option maxHeartbeats 1000000 in
theorem gSz_of {C : gC} {l : Launch} {y : MethodName} {b : ByteArray} {L f n : Nat} {As : List Value} {u : dS} {post : Int32 → dS → Prop} (hy : plainName y.cls = true) (hn : As.length ≤ L) (hc : ∀ v ∈ As, v.category = 1) (h : ∀ (E : gE dS) (a : Nat → Nat), gOk E b y.cls → cOk C E l f n a → (∀ (pc : Nat) (lv : List (Option Value)) (r : Int32) (u' : dS), decode b pc = .ok (.ireturn, 1) → (r = 0 ∨ r = 1) → post r u' → gG E pc lv [.int r] u') → gG E 0 (As.map some ++ List.replicate (L - (As.length)) none) [] u) : gSi C l y b L (some .boolean) (gR f n) As u post := by
  intro D a d sz
  refine Met.ofW (cc := b) (maxL := L) (ret := (some .boolean)) hy rfl ?_
  intro p e s m args below meth c s₁ B hml hv
  obtain ⟨rfl, hsz, hP, hK, hD0⟩ := hv
  have hx := B.exec
  have hb := B.bytes
  have hr := B.returns
  have hts0 := atoms_spec (ws := ws_ y b L (some .boolean)) B.pre
  have hts : ∀ w ∈ lw_all, w.before _ s = true := fun w h => hts0 w (List.mem_cons_of_mem _ h)
  have hown : s.vm.findClass y.cls = some m.cls := findClass_of_methodNamed B.named
  have hlocks := B.notSynchronized
  subst hsz
  have hD := hD0.self (sz := s.heap.size)
  have hA : ∀ q : Nat, s.heap.size ≤ q → va_A (C.1 a d u) s.heap.size q := fun q h => Or.inr h
  have hcv : ∀ v ∈ As, v.category = 1 := hc
  have hl := lv_entry As (n := L) (by rw [g_sl_len _ hcv]; exact hn)
  rw [lg_entry_eq]
  have key := h (p, l, e, gR f n, s, m, As.toArray, below, meth, c, MQ below (va_Qi post (gT C D a d u s.heap.size) (va_A (C.1 a d u) s.heap.size)) As.toArray s 0 0 (va_A (C.1 a d u) s.heap.size), D, C.2 d, C.1 a d, va_A (C.1 a d u) s.heap.size, L, 0, 0) a ⟨hx, hb, hml, hown, hts, hA, hlocks⟩ ⟨rfl, rfl, rfl, rfl, d, rfl, rfl⟩ ?_
  · exact key s.heap [] _ hK hP hD va_S.rf (g_lv.entry hl hn hcv)
  · intro pc lv r u' hd hz hp H locs ls hK hP hD hS hl
    exact W.zret hx hb hr (by rcases hz with rfl | rfl <;> rfl) (fun t ht hW => ⟨⟨r, u', rfl, hp, by rw [ht]; exact hP, va_K.moved hW.alike hK, hD⟩, hS.F ht⟩) hS.2.2 hd
set_option maxHeartbeats 1000000 in
theorem gcalli {C : gC} {E : gE dS} {cc : ByteArray} {own : String} {l : Launch} {f n f' n' : Nat} {a : Nat → Nat} (g : gOk E cc own) (k : cOk C E l f n a) {y : MethodName} {b : ByteArray} {L : Nat} {r : Option FieldType} {As : List Value} {u : dS} {post : Int32 → dS → Prop} {idx pc na : Nat} {lv : List (Option Value)} {st st0 : List Value} (hrec : ∀ d, ∃ (ci : Nat) (fs : List Value) (q : vw_C), (C.1 a d u)[0]? = some (a 0, .inr (ci, fs)) ∧ vwCl[ci]? = some q ∧ q.1 = y.cls) (hw : GoodIn lw_all (wsV own idx y.cls y (ws_ y b L r))) (hy : y.cls = y.cls ∧ y.cls ≠ "java/lang/invoke/MethodHandle" ∧ y.cls ≠ "java/lang/invoke/VarHandle" ∧ (parseMethodDescriptor y.desc).map (fun d => d.parameters.length) = some na) (hna : As.length = na) (hM : gMi C l y b L r (gR f' n') As u post) (hR : f' + 1 ≤ f ∧ 8 + (L + 11) + n' ≤ n) (hd : decode cc pc = .ok (.invokevirtual idx, 3)) (hst : st0 = As.reverse ++ .ref (a 0) :: st) (hs : (st.map fun v => v.category).sum ≤ 8) (kk : ∀ (r : Int32) (u' : dS), post r u' → gG E (pc + 3) lv (.int r :: st) u') : gG E pc lv st0 u := by
  obtain ⟨p, l', e, R, s, m, args, below, meth, c, Q, D, tys, w, A, nL, cells, slots⟩ := E
  obtain ⟨rfl, rfl, rfl, rfl, d, rfl, rfl⟩ := k
  obtain ⟨hx, hb, hml, hown, hts, hA, hlk⟩ := g
  intro H locs ls hK hP hD hS h
  obtain ⟨ci, fs, q, h1, h2, h3⟩ := hrec d
  have hFc : ∀ q, va_A (C.1 a d u) H.size q → A q := fun q hq => by
    rcases hq with ⟨k, e, hk⟩ | hq
    · exact hD.2 k (q, e) hk
    · exact hA q (Nat.le_trans hS.1 hq)
  refine va_calli (va_runV (As := As) (rest := st) ⟨hx, hb, hml, hown, hts⟩ (hM D a d H.size) (cwV na hts hw rfl rfl rfl hy hR) ⟨fun a U g mk q => by obtain ⟨q0, q1, qP, qK, qD⟩ := q; exact ⟨q0, q1, qP, va_K.moved (u := U) (U := U.calling g mk a) (Vm.Alike.refl U.vm) qK, qD⟩, h3 ▸ va_recv hK hP h2 h1, fun U hU hW => ⟨rfl, by rw [hU], by rw [hU]; exact hP, va_K.moved hW.alike hK, hD.weaken (fun _ _ _ _ => trivial)⟩⟩ rfl hna h.1 hst (lv_room hs) hd ⟨Nat.le_refl _, Nat.le_refl _⟩) hS (fun q _ h => hFc q h) hFc (fun r u' t H1 locs1 ht hvm hp hB hz hk1 hS1 => ?_)
  obtain ⟨hP1, hK1, hD1⟩ := hB
  exact kk r u' hp H1 locs1 ls hK (ht ▸ hP1) (hD1.weaken (fun k q _ h => hFc q.1 h)) hS1 h
set_option maxHeartbeats 1000000 in
theorem gcallv {C : gC} {E : gE dS} {cc : ByteArray} {own : String} {l : Launch} {f n f' n' : Nat} {a : Nat → Nat} (g : gOk E cc own) (k : cOk C E l f n a) {y : MethodName} {b : ByteArray} {L : Nat} {As : List Value} {u : dS} {post : dS → Prop} {idx pc na : Nat} {lv : List (Option Value)} {st st0 : List Value} (hrec : ∀ d, ∃ (ci : Nat) (fs : List Value) (q : vw_C), (C.1 a d u)[0]? = some (a 0, .inr (ci, fs)) ∧ vwCl[ci]? = some q ∧ q.1 = y.cls) (hw : GoodIn lw_all (wsV own idx y.cls y (ws_ y b L none))) (hy : y.cls = y.cls ∧ y.cls ≠ "java/lang/invoke/MethodHandle" ∧ y.cls ≠ "java/lang/invoke/VarHandle" ∧ (parseMethodDescriptor y.desc).map (fun d => d.parameters.length) = some na) (hna : As.length = na) (hM : gMv C l y b L (gR f' n') As u post) (hR : f' + 1 ≤ f ∧ 8 + (L + 11) + n' ≤ n) (hd : decode cc pc = .ok (.invokevirtual idx, 3)) (hst : st0 = As.reverse ++ .ref (a 0) :: st) (hs : (st.map fun v => v.category).sum ≤ 8) (kk : ∀ (u' : dS), post u' → gG E (pc + 3) lv st u') : gG E pc lv st0 u := by
  obtain ⟨p, l', e, R, s, m, args, below, meth, c, Q, D, tys, w, A, nL, cells, slots⟩ := E
  obtain ⟨rfl, rfl, rfl, rfl, d, rfl, rfl⟩ := k
  obtain ⟨hx, hb, hml, hown, hts, hA, hlk⟩ := g
  intro H locs ls hK hP hD hS h
  obtain ⟨ci, fs, q, h1, h2, h3⟩ := hrec d
  have hFc : ∀ q, va_A (C.1 a d u) H.size q → A q := fun q hq => by
    rcases hq with ⟨k, e, hk⟩ | hq
    · exact hD.2 k (q, e) hk
    · exact hA q (Nat.le_trans hS.1 hq)
  refine va_callv (va_runV (As := As) (rest := st) ⟨hx, hb, hml, hown, hts⟩ (hM D a d H.size) (cwV na hts hw rfl rfl rfl hy hR) ⟨fun a U g mk q => by obtain ⟨q0, q1, qP, qK, qD⟩ := q; exact ⟨q0, q1, qP, va_K.moved (u := U) (U := U.calling g mk a) (Vm.Alike.refl U.vm) qK, qD⟩, h3 ▸ va_recv hK hP h2 h1, fun U hU hW => ⟨rfl, by rw [hU], by rw [hU]; exact hP, va_K.moved hW.alike hK, hD.weaken (fun _ _ _ _ => trivial)⟩⟩ rfl hna h.1 hst (lv_room hs) hd ⟨Nat.le_refl _, Nat.le_refl _⟩) hS (fun q _ h => hFc q h) hFc (fun u' t H1 locs1 ht hvm hp hB hz hk1 hS1 => ?_)
  obtain ⟨hP1, hK1, hD1⟩ := hB
  exact kk u' hp H1 locs1 ls hK (ht ▸ hP1) (hD1.weaken (fun k q _ h => hFc q.1 h)) hS1 h
set_option maxHeartbeats 1000000 in
theorem gcalls {C : gC} {E : gE dS} {cc : ByteArray} {own : String} {l : Launch} {f n f' n' : Nat} {a : Nat → Nat} (g : gOk E cc own) (k : cOk C E l f n a) {y : MethodName} {b : ByteArray} {L : Nat} {r : Option FieldType} {As : List Value} {u : dS} {post : Int32 → dS → Prop} {idx pc na : Nat} {lv : List (Option Value)} {st st0 : List Value} (hw : GoodIn lw_all (va_wsS own idx y (ws_ y b L r))) (hy : y.cls ≠ "java/lang/invoke/MethodHandle" ∧ y.cls ≠ "java/lang/invoke/VarHandle" ∧ (parseMethodDescriptor y.desc).map (fun d => d.parameters.length) = some na) (hna : As.length = na) (hM : gSi C l y b L r (gR f' n') As u post) (hR : f' + 1 ≤ f ∧ 8 + (L + 11) + n' ≤ n) (hd : decode cc pc = .ok (.invokestatic idx, 3)) (hst : st0 = As.reverse ++ st) (hs : (st.map fun v => v.category).sum ≤ 8) (kk : ∀ (r : Int32) (u' : dS), post r u' → gG E (pc + 3) lv (.int r :: st) u') : gG E pc lv st0 u := by
  obtain ⟨p, l', e, R, s, m, args, below, meth, c, Q, D, tys, w, A, nL, cells, slots⟩ := E
  obtain ⟨rfl, rfl, rfl, rfl, d, rfl, rfl⟩ := k
  obtain ⟨hx, hb, hml, hown, hts, hA, hlk⟩ := g
  intro H locs ls hK hP hD hS h
  have hFc : ∀ q, va_A (C.1 a d u) H.size q → A q := fun q hq => by
    rcases hq with ⟨k, e, hk⟩ | hq
    · exact hD.2 k (q, e) hk
    · exact hA q (Nat.le_trans hS.1 hq)
  refine va_calli (va_runS (As := As) (rest := st) ⟨hx, hb, hml, hown, hts⟩ (hM D a d H.size) (va_cwS na hts hw rfl rfl rfl hy hR) ⟨fun a U g mk q => by obtain ⟨q0, q1, qP, qK, qD⟩ := q; exact ⟨q0, q1, qP, va_K.moved (u := U) (U := U.calling g mk a) (Vm.Alike.refl U.vm) qK, qD⟩, fun U hU hW => ⟨rfl, by rw [hU], by rw [hU]; exact hP, va_K.moved hW.alike hK, hD.weaken (fun _ _ _ _ => trivial)⟩⟩ rfl hna h.1 hst (lv_room hs) hd ⟨Nat.le_refl _, Nat.le_refl _⟩) hS (fun q _ h => hFc q h) hFc (fun r u' t H1 locs1 ht hvm hp hB hz hk1 hS1 => ?_)
  obtain ⟨hP1, hK1, hD1⟩ := hB
  exact kk r u' hp H1 locs1 ls hK (ht ▸ hP1) (hD1.weaken (fun k q _ h => hFc q.1 h)) hS1 h
end
section
def dI (u : dS) (k : Nat) (v : Int32) : dS := (va_up u.1 k v, u.2)
def dF (u : dS) (k i : Nat) (v : Int32) : dS := (u.1, va_up u.2 k (upd (u.2 k) i v))
theorem dI_1 (u : dS) (k : Nat) (v : Int32) (j : Nat) : (dI u k v).1 j = if j = k then v else u.1 j := rfl
theorem dI_2 (u : dS) (k : Nat) (v : Int32) : (dI u k v).2 = u.2 := rfl
theorem dF_1 (u : dS) (k i : Nat) (v : Int32) : (dF u k i v).1 = u.1 := rfl
theorem dF_2 (u : dS) (k i : Nat) (v : Int32) (k' j : Nat) : (dF u k i v).2 k' j = if k' = k then (if j = i then v else u.2 k j) else u.2 k' j := by
  show (if k' = k then upd (u.2 k) i v else u.2 k') j = _
  split <;> rfl
theorem dF_n (u : dS) (k i : Nat) (v : Int32) (k' : Nat) (h : k' ≠ k) : (dF u k i v).2 k' = u.2 k' := if_neg h
/-! ImpreciseDesk: its picture, a row a field, a row a call -/
def dkW (a : Nat → Nat) (d : Nat → ClassId) (u : dS) : va_W := [(a 0, .inr (0, [.int (u.1 0), .ref (a 1), .ref (a 2), .ref (a 3), .ref (a 4), .ref (a 5), .int (u.1 6), .int (u.1 7), .ref (a 8), .int (u.1 9), .ref (a 10), .int (u.1 11), .ref (a 12), .ref (a 13), .int (u.1 14), .int (u.1 15), .ref (a 16), .ref (a 17), .ref (a 18)])), (a 1, .inl (d 1, 6, .inl (u.2 1))), (a 2, .inl (d 2, 6, .inl (u.2 2))), (a 3, .inl (d 3, 6, .inl (u.2 3))), (a 4, .inl (d 4, 6, .inl (u.2 4))), (a 5, .inl (d 5, 6, .inl (u.2 5))), (a 8, .inl (d 8, 24, .inl (u.2 8))), (a 10, .inl (d 10, 8, .inl (u.2 10))), (a 12, .inl (d 12, 6, .inl (u.2 12))), (a 13, .inl (d 13, 6, .inl (u.2 13))), (a 16, .inl (d 16, 6, .inl (u.2 16))), (a 17, .inl (d 17, 24, .inl (u.2 17))), (a 18, .inl (d 18, 6, .inl (u.2 18)))]
def dkTy (d : Nat → ClassId) : List (ClassId × FieldType) := [(d 1, .byte), (d 2, .byte), (d 3, .byte), (d 4, .byte), (d 5, .byte), (d 8, .byte), (d 10, .byte), (d 12, .byte), (d 13, .byte), (d 16, .byte), (d 17, .byte), (d 18, .byte)]
abbrev dkC : gC := (dkW, dkTy)
theorem dk_rec (a : Nat → Nat) (u : dS) : ∀ d, ∃ (ci : Nat) (fs : List Value) (q : vw_C), (dkC.1 a d u)[0]? = some (a 0, .inr (ci, fs)) ∧ vwCl[ci]? = some q ∧ q.1 = RX0 := fun d => ⟨0, _, _, rfl, rfl, rfl⟩
section
variable {E : gE dS} {cc : ByteArray} {l : Launch} {f n : Nat} {a : Nat → Nat} {pc : Nat} {lv : List (Option Value)} {st : List Value} {u : dS}
theorem dk_get0 (g : gOk E cc RX0) (k : cOk dkC E l f n a) (hd : decode cc pc = .ok (.getfield 46, 3)) (kk : gG E (pc + 3) lv (.int (u.1 0) :: st) u) : gG E pc lv (.ref (a 0) :: st) u := by
  obtain ⟨p, l', e, R, s, m, args, below, meth, c, Q, D, tys, w, A, nL, cells, slots⟩ := E
  obtain ⟨rfl, rfl, rfl, rfl, d, rfl, rfl⟩ := k
  obtain ⟨hx, hb, hml, hown, hts, hA, hlk⟩ := g
  intro H locs ls hK hP hD hS h
  exact va_get (D := D) (ci := 0) (C := RX0) (T := TX0) (N := 19) (v := .int (u.1 0)) hx hb hts in_X0 hown hK hP 0 rfl rfl 0 (by decide) (hts _ q41) (fun _ h9 => h9) rfl hd (kk H locs ls hK hP hD hS h)
theorem dk_put0 (g : gOk E cc RX0) (k : cOk dkC E l f n a) {x : Int32} (hd : decode cc pc = .ok (.putfield 46, 3)) (kk : gG E (pc + 3) lv st (dI u 0 x)) : gG E pc lv (.int x :: .ref (a 0) :: st) u := by
  obtain ⟨p, l', e, R, s, m, args, below, meth, c, Q, D, tys, w, A, nL, cells, slots⟩ := E
  obtain ⟨rfl, rfl, rfl, rfl, d, rfl, rfl⟩ := k
  obtain ⟨hx, hb, hml, hown, hts, hA, hlk⟩ := g
  intro H locs ls hK hP hD hS h
  refine va_put (D := D) (ci := 0) (C := RX0) (T := TX0) (N := 19) (v := .int x) (ty := .int) hx hb hts in_X0 tyX0 tyX0_ok nmX0 hown hK hP hD hS 0 rfl rfl 0 (by decide) (hts _ q41) (fun _ h9 => h9) rfl (by decide +kernel) rfl rfl (Nat.le_of_ble_eq_true rfl) hd (fun H1 locs1 hP1 hD1 hS1 => ?_)
  exact kk H1 locs1 ls hK hP1 hD1 hS1 h
theorem dk_get1 (g : gOk E cc RX0) (k : cOk dkC E l f n a) (hd : decode cc pc = .ok (.getfield 7, 3)) (kk : gG E (pc + 3) lv (.ref (a 1) :: st) u) : gG E pc lv (.ref (a 0) :: st) u := by
  obtain ⟨p, l', e, R, s, m, args, below, meth, c, Q, D, tys, w, A, nL, cells, slots⟩ := E
  obtain ⟨rfl, rfl, rfl, rfl, d, rfl, rfl⟩ := k
  obtain ⟨hx, hb, hml, hown, hts, hA, hlk⟩ := g
  intro H locs ls hK hP hD hS h
  exact va_get (D := D) (ci := 0) (C := RX0) (T := TX0) (N := 19) (v := .ref (a 1)) hx hb hts in_X0 hown hK hP 0 rfl rfl 1 (by decide) (hts _ q42) (fun _ h9 => h9) rfl hd (kk H locs ls hK hP hD hS h)
theorem dk_get2 (g : gOk E cc RX0) (k : cOk dkC E l f n a) (hd : decode cc pc = .ok (.getfield 13, 3)) (kk : gG E (pc + 3) lv (.ref (a 2) :: st) u) : gG E pc lv (.ref (a 0) :: st) u := by
  obtain ⟨p, l', e, R, s, m, args, below, meth, c, Q, D, tys, w, A, nL, cells, slots⟩ := E
  obtain ⟨rfl, rfl, rfl, rfl, d, rfl, rfl⟩ := k
  obtain ⟨hx, hb, hml, hown, hts, hA, hlk⟩ := g
  intro H locs ls hK hP hD hS h
  exact va_get (D := D) (ci := 0) (C := RX0) (T := TX0) (N := 19) (v := .ref (a 2)) hx hb hts in_X0 hown hK hP 0 rfl rfl 2 (by decide) (hts _ q43) (fun _ h9 => h9) rfl hd (kk H locs ls hK hP hD hS h)
theorem dk_get3 (g : gOk E cc RX0) (k : cOk dkC E l f n a) (hd : decode cc pc = .ok (.getfield 16, 3)) (kk : gG E (pc + 3) lv (.ref (a 3) :: st) u) : gG E pc lv (.ref (a 0) :: st) u := by
  obtain ⟨p, l', e, R, s, m, args, below, meth, c, Q, D, tys, w, A, nL, cells, slots⟩ := E
  obtain ⟨rfl, rfl, rfl, rfl, d, rfl, rfl⟩ := k
  obtain ⟨hx, hb, hml, hown, hts, hA, hlk⟩ := g
  intro H locs ls hK hP hD hS h
  exact va_get (D := D) (ci := 0) (C := RX0) (T := TX0) (N := 19) (v := .ref (a 3)) hx hb hts in_X0 hown hK hP 0 rfl rfl 3 (by decide) (hts _ q44) (fun _ h9 => h9) rfl hd (kk H locs ls hK hP hD hS h)
theorem dk_get4 (g : gOk E cc RX0) (k : cOk dkC E l f n a) (hd : decode cc pc = .ok (.getfield 19, 3)) (kk : gG E (pc + 3) lv (.ref (a 4) :: st) u) : gG E pc lv (.ref (a 0) :: st) u := by
  obtain ⟨p, l', e, R, s, m, args, below, meth, c, Q, D, tys, w, A, nL, cells, slots⟩ := E
  obtain ⟨rfl, rfl, rfl, rfl, d, rfl, rfl⟩ := k
  obtain ⟨hx, hb, hml, hown, hts, hA, hlk⟩ := g
  intro H locs ls hK hP hD hS h
  exact va_get (D := D) (ci := 0) (C := RX0) (T := TX0) (N := 19) (v := .ref (a 4)) hx hb hts in_X0 hown hK hP 0 rfl rfl 4 (by decide) (hts _ q45) (fun _ h9 => h9) rfl hd (kk H locs ls hK hP hD hS h)
theorem dk_get5 (g : gOk E cc RX0) (k : cOk dkC E l f n a) (hd : decode cc pc = .ok (.getfield 22, 3)) (kk : gG E (pc + 3) lv (.ref (a 5) :: st) u) : gG E pc lv (.ref (a 0) :: st) u := by
  obtain ⟨p, l', e, R, s, m, args, below, meth, c, Q, D, tys, w, A, nL, cells, slots⟩ := E
  obtain ⟨rfl, rfl, rfl, rfl, d, rfl, rfl⟩ := k
  obtain ⟨hx, hb, hml, hown, hts, hA, hlk⟩ := g
  intro H locs ls hK hP hD hS h
  exact va_get (D := D) (ci := 0) (C := RX0) (T := TX0) (N := 19) (v := .ref (a 5)) hx hb hts in_X0 hown hK hP 0 rfl rfl 5 (by decide) (hts _ q46) (fun _ h9 => h9) rfl hd (kk H locs ls hK hP hD hS h)
theorem dk_get6 (g : gOk E cc RX0) (k : cOk dkC E l f n a) (hd : decode cc pc = .ok (.getfield 69, 3)) (kk : gG E (pc + 3) lv (.int (u.1 6) :: st) u) : gG E pc lv (.ref (a 0) :: st) u := by
  obtain ⟨p, l', e, R, s, m, args, below, meth, c, Q, D, tys, w, A, nL, cells, slots⟩ := E
  obtain ⟨rfl, rfl, rfl, rfl, d, rfl, rfl⟩ := k
  obtain ⟨hx, hb, hml, hown, hts, hA, hlk⟩ := g
  intro H locs ls hK hP hD hS h
  exact va_get (D := D) (ci := 0) (C := RX0) (T := TX0) (N := 19) (v := .int (u.1 6)) hx hb hts in_X0 hown hK hP 0 rfl rfl 6 (by decide) (hts _ q47) (fun _ h9 => h9) rfl hd (kk H locs ls hK hP hD hS h)
theorem dk_put6 (g : gOk E cc RX0) (k : cOk dkC E l f n a) {x : Int32} (hd : decode cc pc = .ok (.putfield 69, 3)) (kk : gG E (pc + 3) lv st (dI u 6 x)) : gG E pc lv (.int x :: .ref (a 0) :: st) u := by
  obtain ⟨p, l', e, R, s, m, args, below, meth, c, Q, D, tys, w, A, nL, cells, slots⟩ := E
  obtain ⟨rfl, rfl, rfl, rfl, d, rfl, rfl⟩ := k
  obtain ⟨hx, hb, hml, hown, hts, hA, hlk⟩ := g
  intro H locs ls hK hP hD hS h
  refine va_put (D := D) (ci := 0) (C := RX0) (T := TX0) (N := 19) (v := .int x) (ty := .int) hx hb hts in_X0 tyX0 tyX0_ok nmX0 hown hK hP hD hS 0 rfl rfl 6 (by decide) (hts _ q47) (fun _ h9 => h9) rfl (by decide +kernel) rfl rfl (Nat.le_of_ble_eq_true rfl) hd (fun H1 locs1 hP1 hD1 hS1 => ?_)
  exact kk H1 locs1 ls hK hP1 hD1 hS1 h
theorem dk_get7 (g : gOk E cc RX0) (k : cOk dkC E l f n a) (hd : decode cc pc = .ok (.getfield 72, 3)) (kk : gG E (pc + 3) lv (.int (u.1 7) :: st) u) : gG E pc lv (.ref (a 0) :: st) u := by
  obtain ⟨p, l', e, R, s, m, args, below, meth, c, Q, D, tys, w, A, nL, cells, slots⟩ := E
  obtain ⟨rfl, rfl, rfl, rfl, d, rfl, rfl⟩ := k
  obtain ⟨hx, hb, hml, hown, hts, hA, hlk⟩ := g
  intro H locs ls hK hP hD hS h
  exact va_get (D := D) (ci := 0) (C := RX0) (T := TX0) (N := 19) (v := .int (u.1 7)) hx hb hts in_X0 hown hK hP 0 rfl rfl 7 (by decide) (hts _ q48) (fun _ h9 => h9) rfl hd (kk H locs ls hK hP hD hS h)
theorem dk_put7 (g : gOk E cc RX0) (k : cOk dkC E l f n a) {x : Int32} (hd : decode cc pc = .ok (.putfield 72, 3)) (kk : gG E (pc + 3) lv st (dI u 7 x)) : gG E pc lv (.int x :: .ref (a 0) :: st) u := by
  obtain ⟨p, l', e, R, s, m, args, below, meth, c, Q, D, tys, w, A, nL, cells, slots⟩ := E
  obtain ⟨rfl, rfl, rfl, rfl, d, rfl, rfl⟩ := k
  obtain ⟨hx, hb, hml, hown, hts, hA, hlk⟩ := g
  intro H locs ls hK hP hD hS h
  refine va_put (D := D) (ci := 0) (C := RX0) (T := TX0) (N := 19) (v := .int x) (ty := .int) hx hb hts in_X0 tyX0 tyX0_ok nmX0 hown hK hP hD hS 0 rfl rfl 7 (by decide) (hts _ q48) (fun _ h9 => h9) rfl (by decide +kernel) rfl rfl (Nat.le_of_ble_eq_true rfl) hd (fun H1 locs1 hP1 hD1 hS1 => ?_)
  exact kk H1 locs1 ls hK hP1 hD1 hS1 h
theorem dk_get8 (g : gOk E cc RX0) (k : cOk dkC E l f n a) (hd : decode cc pc = .ok (.getfield 25, 3)) (kk : gG E (pc + 3) lv (.ref (a 8) :: st) u) : gG E pc lv (.ref (a 0) :: st) u := by
  obtain ⟨p, l', e, R, s, m, args, below, meth, c, Q, D, tys, w, A, nL, cells, slots⟩ := E
  obtain ⟨rfl, rfl, rfl, rfl, d, rfl, rfl⟩ := k
  obtain ⟨hx, hb, hml, hown, hts, hA, hlk⟩ := g
  intro H locs ls hK hP hD hS h
  exact va_get (D := D) (ci := 0) (C := RX0) (T := TX0) (N := 19) (v := .ref (a 8)) hx hb hts in_X0 hown hK hP 0 rfl rfl 8 (by decide) (hts _ q49) (fun _ h9 => h9) rfl hd (kk H locs ls hK hP hD hS h)
theorem dk_get9 (g : gOk E cc RX0) (k : cOk dkC E l f n a) (hd : decode cc pc = .ok (.getfield 75, 3)) (kk : gG E (pc + 3) lv (.int (u.1 9) :: st) u) : gG E pc lv (.ref (a 0) :: st) u := by
  obtain ⟨p, l', e, R, s, m, args, below, meth, c, Q, D, tys, w, A, nL, cells, slots⟩ := E
  obtain ⟨rfl, rfl, rfl, rfl, d, rfl, rfl⟩ := k
  obtain ⟨hx, hb, hml, hown, hts, hA, hlk⟩ := g
  intro H locs ls hK hP hD hS h
  exact va_get (D := D) (ci := 0) (C := RX0) (T := TX0) (N := 19) (v := .int (u.1 9)) hx hb hts in_X0 hown hK hP 0 rfl rfl 9 (by decide) (hts _ q50) (fun _ h9 => h9) rfl hd (kk H locs ls hK hP hD hS h)
theorem dk_put9 (g : gOk E cc RX0) (k : cOk dkC E l f n a) {x : Int32} (hd : decode cc pc = .ok (.putfield 75, 3)) (kk : gG E (pc + 3) lv st (dI u 9 x)) : gG E pc lv (.int x :: .ref (a 0) :: st) u := by
  obtain ⟨p, l', e, R, s, m, args, below, meth, c, Q, D, tys, w, A, nL, cells, slots⟩ := E
  obtain ⟨rfl, rfl, rfl, rfl, d, rfl, rfl⟩ := k
  obtain ⟨hx, hb, hml, hown, hts, hA, hlk⟩ := g
  intro H locs ls hK hP hD hS h
  refine va_put (D := D) (ci := 0) (C := RX0) (T := TX0) (N := 19) (v := .int x) (ty := .int) hx hb hts in_X0 tyX0 tyX0_ok nmX0 hown hK hP hD hS 0 rfl rfl 9 (by decide) (hts _ q50) (fun _ h9 => h9) rfl (by decide +kernel) rfl rfl (Nat.le_of_ble_eq_true rfl) hd (fun H1 locs1 hP1 hD1 hS1 => ?_)
  exact kk H1 locs1 ls hK hP1 hD1 hS1 h
theorem dk_get10 (g : gOk E cc RX0) (k : cOk dkC E l f n a) (hd : decode cc pc = .ok (.getfield 28, 3)) (kk : gG E (pc + 3) lv (.ref (a 10) :: st) u) : gG E pc lv (.ref (a 0) :: st) u := by
  obtain ⟨p, l', e, R, s, m, args, below, meth, c, Q, D, tys, w, A, nL, cells, slots⟩ := E
  obtain ⟨rfl, rfl, rfl, rfl, d, rfl, rfl⟩ := k
  obtain ⟨hx, hb, hml, hown, hts, hA, hlk⟩ := g
  intro H locs ls hK hP hD hS h
  exact va_get (D := D) (ci := 0) (C := RX0) (T := TX0) (N := 19) (v := .ref (a 10)) hx hb hts in_X0 hown hK hP 0 rfl rfl 10 (by decide) (hts _ q51) (fun _ h9 => h9) rfl hd (kk H locs ls hK hP hD hS h)
theorem dk_get11 (g : gOk E cc RX0) (k : cOk dkC E l f n a) (hd : decode cc pc = .ok (.getfield 78, 3)) (kk : gG E (pc + 3) lv (.int (u.1 11) :: st) u) : gG E pc lv (.ref (a 0) :: st) u := by
  obtain ⟨p, l', e, R, s, m, args, below, meth, c, Q, D, tys, w, A, nL, cells, slots⟩ := E
  obtain ⟨rfl, rfl, rfl, rfl, d, rfl, rfl⟩ := k
  obtain ⟨hx, hb, hml, hown, hts, hA, hlk⟩ := g
  intro H locs ls hK hP hD hS h
  exact va_get (D := D) (ci := 0) (C := RX0) (T := TX0) (N := 19) (v := .int (u.1 11)) hx hb hts in_X0 hown hK hP 0 rfl rfl 11 (by decide) (hts _ q52) (fun _ h9 => h9) rfl hd (kk H locs ls hK hP hD hS h)
theorem dk_put11 (g : gOk E cc RX0) (k : cOk dkC E l f n a) {x : Int32} (hd : decode cc pc = .ok (.putfield 78, 3)) (kk : gG E (pc + 3) lv st (dI u 11 x)) : gG E pc lv (.int x :: .ref (a 0) :: st) u := by
  obtain ⟨p, l', e, R, s, m, args, below, meth, c, Q, D, tys, w, A, nL, cells, slots⟩ := E
  obtain ⟨rfl, rfl, rfl, rfl, d, rfl, rfl⟩ := k
  obtain ⟨hx, hb, hml, hown, hts, hA, hlk⟩ := g
  intro H locs ls hK hP hD hS h
  refine va_put (D := D) (ci := 0) (C := RX0) (T := TX0) (N := 19) (v := .int x) (ty := .int) hx hb hts in_X0 tyX0 tyX0_ok nmX0 hown hK hP hD hS 0 rfl rfl 11 (by decide) (hts _ q52) (fun _ h9 => h9) rfl (by decide +kernel) rfl rfl (Nat.le_of_ble_eq_true rfl) hd (fun H1 locs1 hP1 hD1 hS1 => ?_)
  exact kk H1 locs1 ls hK hP1 hD1 hS1 h
theorem dk_get12 (g : gOk E cc RX0) (k : cOk dkC E l f n a) (hd : decode cc pc = .ok (.getfield 31, 3)) (kk : gG E (pc + 3) lv (.ref (a 12) :: st) u) : gG E pc lv (.ref (a 0) :: st) u := by
  obtain ⟨p, l', e, R, s, m, args, below, meth, c, Q, D, tys, w, A, nL, cells, slots⟩ := E
  obtain ⟨rfl, rfl, rfl, rfl, d, rfl, rfl⟩ := k
  obtain ⟨hx, hb, hml, hown, hts, hA, hlk⟩ := g
  intro H locs ls hK hP hD hS h
  exact va_get (D := D) (ci := 0) (C := RX0) (T := TX0) (N := 19) (v := .ref (a 12)) hx hb hts in_X0 hown hK hP 0 rfl rfl 12 (by decide) (hts _ q53) (fun _ h9 => h9) rfl hd (kk H locs ls hK hP hD hS h)
theorem dk_get13 (g : gOk E cc RX0) (k : cOk dkC E l f n a) (hd : decode cc pc = .ok (.getfield 34, 3)) (kk : gG E (pc + 3) lv (.ref (a 13) :: st) u) : gG E pc lv (.ref (a 0) :: st) u := by
  obtain ⟨p, l', e, R, s, m, args, below, meth, c, Q, D, tys, w, A, nL, cells, slots⟩ := E
  obtain ⟨rfl, rfl, rfl, rfl, d, rfl, rfl⟩ := k
  obtain ⟨hx, hb, hml, hown, hts, hA, hlk⟩ := g
  intro H locs ls hK hP hD hS h
  exact va_get (D := D) (ci := 0) (C := RX0) (T := TX0) (N := 19) (v := .ref (a 13)) hx hb hts in_X0 hown hK hP 0 rfl rfl 13 (by decide) (hts _ q54) (fun _ h9 => h9) rfl hd (kk H locs ls hK hP hD hS h)
theorem dk_get14 (g : gOk E cc RX0) (k : cOk dkC E l f n a) (hd : decode cc pc = .ok (.getfield 50, 3)) (kk : gG E (pc + 3) lv (.int (u.1 14) :: st) u) : gG E pc lv (.ref (a 0) :: st) u := by
  obtain ⟨p, l', e, R, s, m, args, below, meth, c, Q, D, tys, w, A, nL, cells, slots⟩ := E
  obtain ⟨rfl, rfl, rfl, rfl, d, rfl, rfl⟩ := k
  obtain ⟨hx, hb, hml, hown, hts, hA, hlk⟩ := g
  intro H locs ls hK hP hD hS h
  exact va_get (D := D) (ci := 0) (C := RX0) (T := TX0) (N := 19) (v := .int (u.1 14)) hx hb hts in_X0 hown hK hP 0 rfl rfl 14 (by decide) (hts _ q55) (fun _ h9 => h9) rfl hd (kk H locs ls hK hP hD hS h)
theorem dk_put14 (g : gOk E cc RX0) (k : cOk dkC E l f n a) {x : Int32} (hd : decode cc pc = .ok (.putfield 50, 3)) (hz : x = 0 ∨ x = 1) (kk : gG E (pc + 3) lv st (dI u 14 x)) : gG E pc lv (.int x :: .ref (a 0) :: st) u := by
  obtain ⟨p, l', e, R, s, m, args, below, meth, c, Q, D, tys, w, A, nL, cells, slots⟩ := E
  obtain ⟨rfl, rfl, rfl, rfl, d, rfl, rfl⟩ := k
  obtain ⟨hx, hb, hml, hown, hts, hA, hlk⟩ := g
  intro H locs ls hK hP hD hS h
  refine va_put (D := D) (ci := 0) (C := RX0) (T := TX0) (N := 19) (v := .int x) (ty := .boolean) hx hb hts in_X0 tyX0 tyX0_ok nmX0 hown hK hP hD hS 0 rfl rfl 14 (by decide) (hts _ q55) (fun _ h9 => h9) rfl (by decide +kernel) (by rcases hz with rfl | rfl <;> rfl) (by rcases hz with rfl | rfl <;> rfl) (Nat.le_of_ble_eq_true rfl) hd (fun H1 locs1 hP1 hD1 hS1 => ?_)
  exact kk H1 locs1 ls hK hP1 hD1 hS1 h
theorem dk_get15 (g : gOk E cc RX0) (k : cOk dkC E l f n a) (hd : decode cc pc = .ok (.getfield 111, 3)) (kk : gG E (pc + 3) lv (.int (u.1 15) :: st) u) : gG E pc lv (.ref (a 0) :: st) u := by
  obtain ⟨p, l', e, R, s, m, args, below, meth, c, Q, D, tys, w, A, nL, cells, slots⟩ := E
  obtain ⟨rfl, rfl, rfl, rfl, d, rfl, rfl⟩ := k
  obtain ⟨hx, hb, hml, hown, hts, hA, hlk⟩ := g
  intro H locs ls hK hP hD hS h
  exact va_get (D := D) (ci := 0) (C := RX0) (T := TX0) (N := 19) (v := .int (u.1 15)) hx hb hts in_X0 hown hK hP 0 rfl rfl 15 (by decide) (hts _ q56) (fun _ h9 => h9) rfl hd (kk H locs ls hK hP hD hS h)
theorem dk_put15 (g : gOk E cc RX0) (k : cOk dkC E l f n a) {x : Int32} (hd : decode cc pc = .ok (.putfield 111, 3)) (kk : gG E (pc + 3) lv st (dI u 15 x)) : gG E pc lv (.int x :: .ref (a 0) :: st) u := by
  obtain ⟨p, l', e, R, s, m, args, below, meth, c, Q, D, tys, w, A, nL, cells, slots⟩ := E
  obtain ⟨rfl, rfl, rfl, rfl, d, rfl, rfl⟩ := k
  obtain ⟨hx, hb, hml, hown, hts, hA, hlk⟩ := g
  intro H locs ls hK hP hD hS h
  refine va_put (D := D) (ci := 0) (C := RX0) (T := TX0) (N := 19) (v := .int x) (ty := .int) hx hb hts in_X0 tyX0 tyX0_ok nmX0 hown hK hP hD hS 0 rfl rfl 15 (by decide) (hts _ q56) (fun _ h9 => h9) rfl (by decide +kernel) rfl rfl (Nat.le_of_ble_eq_true rfl) hd (fun H1 locs1 hP1 hD1 hS1 => ?_)
  exact kk H1 locs1 ls hK hP1 hD1 hS1 h
theorem dk_get16 (g : gOk E cc RX0) (k : cOk dkC E l f n a) (hd : decode cc pc = .ok (.getfield 37, 3)) (kk : gG E (pc + 3) lv (.ref (a 16) :: st) u) : gG E pc lv (.ref (a 0) :: st) u := by
  obtain ⟨p, l', e, R, s, m, args, below, meth, c, Q, D, tys, w, A, nL, cells, slots⟩ := E
  obtain ⟨rfl, rfl, rfl, rfl, d, rfl, rfl⟩ := k
  obtain ⟨hx, hb, hml, hown, hts, hA, hlk⟩ := g
  intro H locs ls hK hP hD hS h
  exact va_get (D := D) (ci := 0) (C := RX0) (T := TX0) (N := 19) (v := .ref (a 16)) hx hb hts in_X0 hown hK hP 0 rfl rfl 16 (by decide) (hts _ q57) (fun _ h9 => h9) rfl hd (kk H locs ls hK hP hD hS h)
theorem dk_get17 (g : gOk E cc RX0) (k : cOk dkC E l f n a) (hd : decode cc pc = .ok (.getfield 40, 3)) (kk : gG E (pc + 3) lv (.ref (a 17) :: st) u) : gG E pc lv (.ref (a 0) :: st) u := by
  obtain ⟨p, l', e, R, s, m, args, below, meth, c, Q, D, tys, w, A, nL, cells, slots⟩ := E
  obtain ⟨rfl, rfl, rfl, rfl, d, rfl, rfl⟩ := k
  obtain ⟨hx, hb, hml, hown, hts, hA, hlk⟩ := g
  intro H locs ls hK hP hD hS h
  exact va_get (D := D) (ci := 0) (C := RX0) (T := TX0) (N := 19) (v := .ref (a 17)) hx hb hts in_X0 hown hK hP 0 rfl rfl 17 (by decide) (hts _ q58) (fun _ h9 => h9) rfl hd (kk H locs ls hK hP hD hS h)
theorem dk_get18 (g : gOk E cc RX0) (k : cOk dkC E l f n a) (hd : decode cc pc = .ok (.getfield 43, 3)) (kk : gG E (pc + 3) lv (.ref (a 18) :: st) u) : gG E pc lv (.ref (a 0) :: st) u := by
  obtain ⟨p, l', e, R, s, m, args, below, meth, c, Q, D, tys, w, A, nL, cells, slots⟩ := E
  obtain ⟨rfl, rfl, rfl, rfl, d, rfl, rfl⟩ := k
  obtain ⟨hx, hb, hml, hown, hts, hA, hlk⟩ := g
  intro H locs ls hK hP hD hS h
  exact va_get (D := D) (ci := 0) (C := RX0) (T := TX0) (N := 19) (v := .ref (a 18)) hx hb hts in_X0 hown hK hP 0 rfl rfl 18 (by decide) (hts _ q59) (fun _ h9 => h9) rfl hd (kk H locs ls hK hP hD hS h)
theorem dk_ld1 (g : gOk E cc RX0) (k : cOk dkC E l f n a) {i : Int32} {j : Nat} (hd : decode cc pc = .ok (.baload, 1)) (hi : i = nI j) (hj : j < 6) (kk : gG E (pc + 1) lv (.int (u.2 1 j) :: st) u) : gG E pc lv (.int i :: .ref (a 1) :: st) u := by
  subst hi
  obtain ⟨p, l', e, R, s, m, args, below, meth, c, Q, D, tys, w, A, nL, cells, slots⟩ := E
  obtain ⟨rfl, rfl, rfl, rfl, d, rfl, rfl⟩ := k
  obtain ⟨hx, hb, hml, hown, hts, hA, hlk⟩ := g
  intro H locs ls hK hP hD hS h
  refine va_bald hx hb hK hP 1 0 rfl rfl (vp_in_nI hj (by decide)) hd ?_
  rw [nI_clamp (by omega)]
  exact kk H locs ls hK hP hD hS h
theorem dk_st1 (g : gOk E cc RX0) (k : cOk dkC E l f n a) {i x : Int32} {j : Nat} (hd : decode cc pc = .ok (.bastore, 1)) (hi : i = nI j) (hj : j < 6) (hv : vp_nar .byte x = x) (kk : gG E (pc + 1) lv st (dF u 1 j x)) : gG E pc lv (.int x :: .int i :: .ref (a 1) :: st) u := by
  subst hi
  obtain ⟨p, l', e, R, s, m, args, below, meth, c, Q, D, tys, w, A, nL, cells, slots⟩ := E
  obtain ⟨rfl, rfl, rfl, rfl, d, rfl, rfl⟩ := k
  obtain ⟨hx, hb, hml, hown, hts, hA, hlk⟩ := g
  intro H locs ls hK hP hD hS h
  refine va_bast hx hb hK hP hD hS 1 0 rfl rfl (vp_in_nI hj (by decide)) hd (fun H1 locs1 hP1 hD1 hS1 => ?_)
  rw [nI_clamp (by omega), hv] at hP1 hD1
  exact kk H1 locs1 ls hK hP1 hD1 hS1 h
theorem dk_ld2 (g : gOk E cc RX0) (k : cOk dkC E l f n a) {i : Int32} {j : Nat} (hd : decode cc pc = .ok (.baload, 1)) (hi : i = nI j) (hj : j < 6) (kk : gG E (pc + 1) lv (.int (u.2 2 j) :: st) u) : gG E pc lv (.int i :: .ref (a 2) :: st) u := by
  subst hi
  obtain ⟨p, l', e, R, s, m, args, below, meth, c, Q, D, tys, w, A, nL, cells, slots⟩ := E
  obtain ⟨rfl, rfl, rfl, rfl, d, rfl, rfl⟩ := k
  obtain ⟨hx, hb, hml, hown, hts, hA, hlk⟩ := g
  intro H locs ls hK hP hD hS h
  refine va_bald hx hb hK hP 2 1 rfl rfl (vp_in_nI hj (by decide)) hd ?_
  rw [nI_clamp (by omega)]
  exact kk H locs ls hK hP hD hS h
theorem dk_st2 (g : gOk E cc RX0) (k : cOk dkC E l f n a) {i x : Int32} {j : Nat} (hd : decode cc pc = .ok (.bastore, 1)) (hi : i = nI j) (hj : j < 6) (hv : vp_nar .byte x = x) (kk : gG E (pc + 1) lv st (dF u 2 j x)) : gG E pc lv (.int x :: .int i :: .ref (a 2) :: st) u := by
  subst hi
  obtain ⟨p, l', e, R, s, m, args, below, meth, c, Q, D, tys, w, A, nL, cells, slots⟩ := E
  obtain ⟨rfl, rfl, rfl, rfl, d, rfl, rfl⟩ := k
  obtain ⟨hx, hb, hml, hown, hts, hA, hlk⟩ := g
  intro H locs ls hK hP hD hS h
  refine va_bast hx hb hK hP hD hS 2 1 rfl rfl (vp_in_nI hj (by decide)) hd (fun H1 locs1 hP1 hD1 hS1 => ?_)
  rw [nI_clamp (by omega), hv] at hP1 hD1
  exact kk H1 locs1 ls hK hP1 hD1 hS1 h
theorem dk_ld3 (g : gOk E cc RX0) (k : cOk dkC E l f n a) {i : Int32} {j : Nat} (hd : decode cc pc = .ok (.baload, 1)) (hi : i = nI j) (hj : j < 6) (kk : gG E (pc + 1) lv (.int (u.2 3 j) :: st) u) : gG E pc lv (.int i :: .ref (a 3) :: st) u := by
  subst hi
  obtain ⟨p, l', e, R, s, m, args, below, meth, c, Q, D, tys, w, A, nL, cells, slots⟩ := E
  obtain ⟨rfl, rfl, rfl, rfl, d, rfl, rfl⟩ := k
  obtain ⟨hx, hb, hml, hown, hts, hA, hlk⟩ := g
  intro H locs ls hK hP hD hS h
  refine va_bald hx hb hK hP 3 2 rfl rfl (vp_in_nI hj (by decide)) hd ?_
  rw [nI_clamp (by omega)]
  exact kk H locs ls hK hP hD hS h
theorem dk_st3 (g : gOk E cc RX0) (k : cOk dkC E l f n a) {i x : Int32} {j : Nat} (hd : decode cc pc = .ok (.bastore, 1)) (hi : i = nI j) (hj : j < 6) (hv : vp_nar .byte x = x) (kk : gG E (pc + 1) lv st (dF u 3 j x)) : gG E pc lv (.int x :: .int i :: .ref (a 3) :: st) u := by
  subst hi
  obtain ⟨p, l', e, R, s, m, args, below, meth, c, Q, D, tys, w, A, nL, cells, slots⟩ := E
  obtain ⟨rfl, rfl, rfl, rfl, d, rfl, rfl⟩ := k
  obtain ⟨hx, hb, hml, hown, hts, hA, hlk⟩ := g
  intro H locs ls hK hP hD hS h
  refine va_bast hx hb hK hP hD hS 3 2 rfl rfl (vp_in_nI hj (by decide)) hd (fun H1 locs1 hP1 hD1 hS1 => ?_)
  rw [nI_clamp (by omega), hv] at hP1 hD1
  exact kk H1 locs1 ls hK hP1 hD1 hS1 h
theorem dk_ld4 (g : gOk E cc RX0) (k : cOk dkC E l f n a) {i : Int32} {j : Nat} (hd : decode cc pc = .ok (.baload, 1)) (hi : i = nI j) (hj : j < 6) (kk : gG E (pc + 1) lv (.int (u.2 4 j) :: st) u) : gG E pc lv (.int i :: .ref (a 4) :: st) u := by
  subst hi
  obtain ⟨p, l', e, R, s, m, args, below, meth, c, Q, D, tys, w, A, nL, cells, slots⟩ := E
  obtain ⟨rfl, rfl, rfl, rfl, d, rfl, rfl⟩ := k
  obtain ⟨hx, hb, hml, hown, hts, hA, hlk⟩ := g
  intro H locs ls hK hP hD hS h
  refine va_bald hx hb hK hP 4 3 rfl rfl (vp_in_nI hj (by decide)) hd ?_
  rw [nI_clamp (by omega)]
  exact kk H locs ls hK hP hD hS h
theorem dk_st4 (g : gOk E cc RX0) (k : cOk dkC E l f n a) {i x : Int32} {j : Nat} (hd : decode cc pc = .ok (.bastore, 1)) (hi : i = nI j) (hj : j < 6) (hv : vp_nar .byte x = x) (kk : gG E (pc + 1) lv st (dF u 4 j x)) : gG E pc lv (.int x :: .int i :: .ref (a 4) :: st) u := by
  subst hi
  obtain ⟨p, l', e, R, s, m, args, below, meth, c, Q, D, tys, w, A, nL, cells, slots⟩ := E
  obtain ⟨rfl, rfl, rfl, rfl, d, rfl, rfl⟩ := k
  obtain ⟨hx, hb, hml, hown, hts, hA, hlk⟩ := g
  intro H locs ls hK hP hD hS h
  refine va_bast hx hb hK hP hD hS 4 3 rfl rfl (vp_in_nI hj (by decide)) hd (fun H1 locs1 hP1 hD1 hS1 => ?_)
  rw [nI_clamp (by omega), hv] at hP1 hD1
  exact kk H1 locs1 ls hK hP1 hD1 hS1 h
theorem dk_ld5 (g : gOk E cc RX0) (k : cOk dkC E l f n a) {i : Int32} {j : Nat} (hd : decode cc pc = .ok (.baload, 1)) (hi : i = nI j) (hj : j < 6) (kk : gG E (pc + 1) lv (.int (u.2 5 j) :: st) u) : gG E pc lv (.int i :: .ref (a 5) :: st) u := by
  subst hi
  obtain ⟨p, l', e, R, s, m, args, below, meth, c, Q, D, tys, w, A, nL, cells, slots⟩ := E
  obtain ⟨rfl, rfl, rfl, rfl, d, rfl, rfl⟩ := k
  obtain ⟨hx, hb, hml, hown, hts, hA, hlk⟩ := g
  intro H locs ls hK hP hD hS h
  refine va_bald hx hb hK hP 5 4 rfl rfl (vp_in_nI hj (by decide)) hd ?_
  rw [nI_clamp (by omega)]
  exact kk H locs ls hK hP hD hS h
theorem dk_st5 (g : gOk E cc RX0) (k : cOk dkC E l f n a) {i x : Int32} {j : Nat} (hd : decode cc pc = .ok (.bastore, 1)) (hi : i = nI j) (hj : j < 6) (hv : vp_nar .byte x = x) (kk : gG E (pc + 1) lv st (dF u 5 j x)) : gG E pc lv (.int x :: .int i :: .ref (a 5) :: st) u := by
  subst hi
  obtain ⟨p, l', e, R, s, m, args, below, meth, c, Q, D, tys, w, A, nL, cells, slots⟩ := E
  obtain ⟨rfl, rfl, rfl, rfl, d, rfl, rfl⟩ := k
  obtain ⟨hx, hb, hml, hown, hts, hA, hlk⟩ := g
  intro H locs ls hK hP hD hS h
  refine va_bast hx hb hK hP hD hS 5 4 rfl rfl (vp_in_nI hj (by decide)) hd (fun H1 locs1 hP1 hD1 hS1 => ?_)
  rw [nI_clamp (by omega), hv] at hP1 hD1
  exact kk H1 locs1 ls hK hP1 hD1 hS1 h
theorem dk_ld8 (g : gOk E cc RX0) (k : cOk dkC E l f n a) {i : Int32} {j : Nat} (hd : decode cc pc = .ok (.baload, 1)) (hi : i = nI j) (hj : j < 24) (kk : gG E (pc + 1) lv (.int (u.2 8 j) :: st) u) : gG E pc lv (.int i :: .ref (a 8) :: st) u := by
  subst hi
  obtain ⟨p, l', e, R, s, m, args, below, meth, c, Q, D, tys, w, A, nL, cells, slots⟩ := E
  obtain ⟨rfl, rfl, rfl, rfl, d, rfl, rfl⟩ := k
  obtain ⟨hx, hb, hml, hown, hts, hA, hlk⟩ := g
  intro H locs ls hK hP hD hS h
  refine va_bald hx hb hK hP 6 5 rfl rfl (vp_in_nI hj (by decide)) hd ?_
  rw [nI_clamp (by omega)]
  exact kk H locs ls hK hP hD hS h
theorem dk_st8 (g : gOk E cc RX0) (k : cOk dkC E l f n a) {i x : Int32} {j : Nat} (hd : decode cc pc = .ok (.bastore, 1)) (hi : i = nI j) (hj : j < 24) (hv : vp_nar .byte x = x) (kk : gG E (pc + 1) lv st (dF u 8 j x)) : gG E pc lv (.int x :: .int i :: .ref (a 8) :: st) u := by
  subst hi
  obtain ⟨p, l', e, R, s, m, args, below, meth, c, Q, D, tys, w, A, nL, cells, slots⟩ := E
  obtain ⟨rfl, rfl, rfl, rfl, d, rfl, rfl⟩ := k
  obtain ⟨hx, hb, hml, hown, hts, hA, hlk⟩ := g
  intro H locs ls hK hP hD hS h
  refine va_bast hx hb hK hP hD hS 6 5 rfl rfl (vp_in_nI hj (by decide)) hd (fun H1 locs1 hP1 hD1 hS1 => ?_)
  rw [nI_clamp (by omega), hv] at hP1 hD1
  exact kk H1 locs1 ls hK hP1 hD1 hS1 h
theorem dk_ld10 (g : gOk E cc RX0) (k : cOk dkC E l f n a) {i : Int32} {j : Nat} (hd : decode cc pc = .ok (.baload, 1)) (hi : i = nI j) (hj : j < 8) (kk : gG E (pc + 1) lv (.int (u.2 10 j) :: st) u) : gG E pc lv (.int i :: .ref (a 10) :: st) u := by
  subst hi
  obtain ⟨p, l', e, R, s, m, args, below, meth, c, Q, D, tys, w, A, nL, cells, slots⟩ := E
  obtain ⟨rfl, rfl, rfl, rfl, d, rfl, rfl⟩ := k
  obtain ⟨hx, hb, hml, hown, hts, hA, hlk⟩ := g
  intro H locs ls hK hP hD hS h
  refine va_bald hx hb hK hP 7 6 rfl rfl (vp_in_nI hj (by decide)) hd ?_
  rw [nI_clamp (by omega)]
  exact kk H locs ls hK hP hD hS h
theorem dk_st10 (g : gOk E cc RX0) (k : cOk dkC E l f n a) {i x : Int32} {j : Nat} (hd : decode cc pc = .ok (.bastore, 1)) (hi : i = nI j) (hj : j < 8) (hv : vp_nar .byte x = x) (kk : gG E (pc + 1) lv st (dF u 10 j x)) : gG E pc lv (.int x :: .int i :: .ref (a 10) :: st) u := by
  subst hi
  obtain ⟨p, l', e, R, s, m, args, below, meth, c, Q, D, tys, w, A, nL, cells, slots⟩ := E
  obtain ⟨rfl, rfl, rfl, rfl, d, rfl, rfl⟩ := k
  obtain ⟨hx, hb, hml, hown, hts, hA, hlk⟩ := g
  intro H locs ls hK hP hD hS h
  refine va_bast hx hb hK hP hD hS 7 6 rfl rfl (vp_in_nI hj (by decide)) hd (fun H1 locs1 hP1 hD1 hS1 => ?_)
  rw [nI_clamp (by omega), hv] at hP1 hD1
  exact kk H1 locs1 ls hK hP1 hD1 hS1 h
theorem dk_ld12 (g : gOk E cc RX0) (k : cOk dkC E l f n a) {i : Int32} {j : Nat} (hd : decode cc pc = .ok (.baload, 1)) (hi : i = nI j) (hj : j < 6) (kk : gG E (pc + 1) lv (.int (u.2 12 j) :: st) u) : gG E pc lv (.int i :: .ref (a 12) :: st) u := by
  subst hi
  obtain ⟨p, l', e, R, s, m, args, below, meth, c, Q, D, tys, w, A, nL, cells, slots⟩ := E
  obtain ⟨rfl, rfl, rfl, rfl, d, rfl, rfl⟩ := k
  obtain ⟨hx, hb, hml, hown, hts, hA, hlk⟩ := g
  intro H locs ls hK hP hD hS h
  refine va_bald hx hb hK hP 8 7 rfl rfl (vp_in_nI hj (by decide)) hd ?_
  rw [nI_clamp (by omega)]
  exact kk H locs ls hK hP hD hS h
theorem dk_st12 (g : gOk E cc RX0) (k : cOk dkC E l f n a) {i x : Int32} {j : Nat} (hd : decode cc pc = .ok (.bastore, 1)) (hi : i = nI j) (hj : j < 6) (hv : vp_nar .byte x = x) (kk : gG E (pc + 1) lv st (dF u 12 j x)) : gG E pc lv (.int x :: .int i :: .ref (a 12) :: st) u := by
  subst hi
  obtain ⟨p, l', e, R, s, m, args, below, meth, c, Q, D, tys, w, A, nL, cells, slots⟩ := E
  obtain ⟨rfl, rfl, rfl, rfl, d, rfl, rfl⟩ := k
  obtain ⟨hx, hb, hml, hown, hts, hA, hlk⟩ := g
  intro H locs ls hK hP hD hS h
  refine va_bast hx hb hK hP hD hS 8 7 rfl rfl (vp_in_nI hj (by decide)) hd (fun H1 locs1 hP1 hD1 hS1 => ?_)
  rw [nI_clamp (by omega), hv] at hP1 hD1
  exact kk H1 locs1 ls hK hP1 hD1 hS1 h
theorem dk_ld13 (g : gOk E cc RX0) (k : cOk dkC E l f n a) {i : Int32} {j : Nat} (hd : decode cc pc = .ok (.baload, 1)) (hi : i = nI j) (hj : j < 6) (kk : gG E (pc + 1) lv (.int (u.2 13 j) :: st) u) : gG E pc lv (.int i :: .ref (a 13) :: st) u := by
  subst hi
  obtain ⟨p, l', e, R, s, m, args, below, meth, c, Q, D, tys, w, A, nL, cells, slots⟩ := E
  obtain ⟨rfl, rfl, rfl, rfl, d, rfl, rfl⟩ := k
  obtain ⟨hx, hb, hml, hown, hts, hA, hlk⟩ := g
  intro H locs ls hK hP hD hS h
  refine va_bald hx hb hK hP 9 8 rfl rfl (vp_in_nI hj (by decide)) hd ?_
  rw [nI_clamp (by omega)]
  exact kk H locs ls hK hP hD hS h
theorem dk_st13 (g : gOk E cc RX0) (k : cOk dkC E l f n a) {i x : Int32} {j : Nat} (hd : decode cc pc = .ok (.bastore, 1)) (hi : i = nI j) (hj : j < 6) (hv : vp_nar .byte x = x) (kk : gG E (pc + 1) lv st (dF u 13 j x)) : gG E pc lv (.int x :: .int i :: .ref (a 13) :: st) u := by
  subst hi
  obtain ⟨p, l', e, R, s, m, args, below, meth, c, Q, D, tys, w, A, nL, cells, slots⟩ := E
  obtain ⟨rfl, rfl, rfl, rfl, d, rfl, rfl⟩ := k
  obtain ⟨hx, hb, hml, hown, hts, hA, hlk⟩ := g
  intro H locs ls hK hP hD hS h
  refine va_bast hx hb hK hP hD hS 9 8 rfl rfl (vp_in_nI hj (by decide)) hd (fun H1 locs1 hP1 hD1 hS1 => ?_)
  rw [nI_clamp (by omega), hv] at hP1 hD1
  exact kk H1 locs1 ls hK hP1 hD1 hS1 h
theorem dk_ld16 (g : gOk E cc RX0) (k : cOk dkC E l f n a) {i : Int32} {j : Nat} (hd : decode cc pc = .ok (.baload, 1)) (hi : i = nI j) (hj : j < 6) (kk : gG E (pc + 1) lv (.int (u.2 16 j) :: st) u) : gG E pc lv (.int i :: .ref (a 16) :: st) u := by
  subst hi
  obtain ⟨p, l', e, R, s, m, args, below, meth, c, Q, D, tys, w, A, nL, cells, slots⟩ := E
  obtain ⟨rfl, rfl, rfl, rfl, d, rfl, rfl⟩ := k
  obtain ⟨hx, hb, hml, hown, hts, hA, hlk⟩ := g
  intro H locs ls hK hP hD hS h
  refine va_bald hx hb hK hP 10 9 rfl rfl (vp_in_nI hj (by decide)) hd ?_
  rw [nI_clamp (by omega)]
  exact kk H locs ls hK hP hD hS h
theorem dk_st16 (g : gOk E cc RX0) (k : cOk dkC E l f n a) {i x : Int32} {j : Nat} (hd : decode cc pc = .ok (.bastore, 1)) (hi : i = nI j) (hj : j < 6) (hv : vp_nar .byte x = x) (kk : gG E (pc + 1) lv st (dF u 16 j x)) : gG E pc lv (.int x :: .int i :: .ref (a 16) :: st) u := by
  subst hi
  obtain ⟨p, l', e, R, s, m, args, below, meth, c, Q, D, tys, w, A, nL, cells, slots⟩ := E
  obtain ⟨rfl, rfl, rfl, rfl, d, rfl, rfl⟩ := k
  obtain ⟨hx, hb, hml, hown, hts, hA, hlk⟩ := g
  intro H locs ls hK hP hD hS h
  refine va_bast hx hb hK hP hD hS 10 9 rfl rfl (vp_in_nI hj (by decide)) hd (fun H1 locs1 hP1 hD1 hS1 => ?_)
  rw [nI_clamp (by omega), hv] at hP1 hD1
  exact kk H1 locs1 ls hK hP1 hD1 hS1 h
theorem dk_ld17 (g : gOk E cc RX0) (k : cOk dkC E l f n a) {i : Int32} {j : Nat} (hd : decode cc pc = .ok (.baload, 1)) (hi : i = nI j) (hj : j < 24) (kk : gG E (pc + 1) lv (.int (u.2 17 j) :: st) u) : gG E pc lv (.int i :: .ref (a 17) :: st) u := by
  subst hi
  obtain ⟨p, l', e, R, s, m, args, below, meth, c, Q, D, tys, w, A, nL, cells, slots⟩ := E
  obtain ⟨rfl, rfl, rfl, rfl, d, rfl, rfl⟩ := k
  obtain ⟨hx, hb, hml, hown, hts, hA, hlk⟩ := g
  intro H locs ls hK hP hD hS h
  refine va_bald hx hb hK hP 11 10 rfl rfl (vp_in_nI hj (by decide)) hd ?_
  rw [nI_clamp (by omega)]
  exact kk H locs ls hK hP hD hS h
theorem dk_st17 (g : gOk E cc RX0) (k : cOk dkC E l f n a) {i x : Int32} {j : Nat} (hd : decode cc pc = .ok (.bastore, 1)) (hi : i = nI j) (hj : j < 24) (hv : vp_nar .byte x = x) (kk : gG E (pc + 1) lv st (dF u 17 j x)) : gG E pc lv (.int x :: .int i :: .ref (a 17) :: st) u := by
  subst hi
  obtain ⟨p, l', e, R, s, m, args, below, meth, c, Q, D, tys, w, A, nL, cells, slots⟩ := E
  obtain ⟨rfl, rfl, rfl, rfl, d, rfl, rfl⟩ := k
  obtain ⟨hx, hb, hml, hown, hts, hA, hlk⟩ := g
  intro H locs ls hK hP hD hS h
  refine va_bast hx hb hK hP hD hS 11 10 rfl rfl (vp_in_nI hj (by decide)) hd (fun H1 locs1 hP1 hD1 hS1 => ?_)
  rw [nI_clamp (by omega), hv] at hP1 hD1
  exact kk H1 locs1 ls hK hP1 hD1 hS1 h
theorem dk_ld18 (g : gOk E cc RX0) (k : cOk dkC E l f n a) {i : Int32} {j : Nat} (hd : decode cc pc = .ok (.baload, 1)) (hi : i = nI j) (hj : j < 6) (kk : gG E (pc + 1) lv (.int (u.2 18 j) :: st) u) : gG E pc lv (.int i :: .ref (a 18) :: st) u := by
  subst hi
  obtain ⟨p, l', e, R, s, m, args, below, meth, c, Q, D, tys, w, A, nL, cells, slots⟩ := E
  obtain ⟨rfl, rfl, rfl, rfl, d, rfl, rfl⟩ := k
  obtain ⟨hx, hb, hml, hown, hts, hA, hlk⟩ := g
  intro H locs ls hK hP hD hS h
  refine va_bald hx hb hK hP 12 11 rfl rfl (vp_in_nI hj (by decide)) hd ?_
  rw [nI_clamp (by omega)]
  exact kk H locs ls hK hP hD hS h
theorem dk_st18 (g : gOk E cc RX0) (k : cOk dkC E l f n a) {i x : Int32} {j : Nat} (hd : decode cc pc = .ok (.bastore, 1)) (hi : i = nI j) (hj : j < 6) (hv : vp_nar .byte x = x) (kk : gG E (pc + 1) lv st (dF u 18 j x)) : gG E pc lv (.int x :: .int i :: .ref (a 18) :: st) u := by
  subst hi
  obtain ⟨p, l', e, R, s, m, args, below, meth, c, Q, D, tys, w, A, nL, cells, slots⟩ := E
  obtain ⟨rfl, rfl, rfl, rfl, d, rfl, rfl⟩ := k
  obtain ⟨hx, hb, hml, hown, hts, hA, hlk⟩ := g
  intro H locs ls hK hP hD hS h
  refine va_bast hx hb hK hP hD hS 12 11 rfl rfl (vp_in_nI hj (by decide)) hd (fun H1 locs1 hP1 hD1 hS1 => ?_)
  rw [nI_clamp (by omega), hv] at hP1 hD1
  exact kk H1 locs1 ls hK hP1 hD1 hS1 h
theorem dk_call_packedOk (g : gOk E cc RX0) (k : cOk dkC E l f n a) {f' n' : Nat} {v1 : Value} {post : Int32 → dS → Prop} (hd : decode cc pc = .ok (.invokestatic 54, 3)) (hM : gSi dkC l yX0_packedOk cX0_packedOk 2 (some .boolean) (gR f' n') [v1] u post) (hR : f' + 1 ≤ f ∧ 8 + (2 + 11) + n' ≤ n) (hs : (st.map fun v => v.category).sum ≤ 8) (kk : ∀ (r : Int32) (u' : dS), post r u' → gG E (pc + 3) lv (.int r :: st) u') : gG E pc lv (v1 :: st) u := gcalls g k (lw_S q104 q105 q31 q106) (na := 1) (by decide +kernel) rfl hM hR hd rfl hs kk
theorem dk_call_has (g : gOk E cc RX0) (k : cOk dkC E l f n a) {f' n' : Nat} {v1 : Value} {post : Int32 → dS → Prop} (hd : decode cc pc = .ok (.invokevirtual 58, 3)) (hM : gMi dkC l yX0_has cX0_has 2 (some .boolean) (gR f' n') [v1] u post) (hR : f' + 1 ≤ f ∧ 8 + (2 + 11) + n' ≤ n) (hs : (st.map fun v => v.category).sum ≤ 8) (kk : ∀ (r : Int32) (u' : dS), post r u' → gG E (pc + 3) lv (.int r :: st) u') : gG E pc lv (v1 :: .ref (a 0) :: st) u := gcalli g k (dk_rec a u) (lw_V q107 q109 qs0 q31 q110) (na := 1) (by decide +kernel) rfl hM hR hd rfl hs kk
theorem dk_call_unpack (g : gOk E cc RX0) (k : cOk dkC E l f n a) {f' n' : Nat} {v1 v2 : Value} {post : dS → Prop} (hd : decode cc pc = .ok (.invokevirtual 61, 3)) (hM : gMv dkC l yX0_unpack cX0_unpack 3 (gR f' n') [v1, v2] u post) (hR : f' + 1 ≤ f ∧ 8 + (3 + 11) + n' ≤ n) (hs : (st.map fun v => v.category).sum ≤ 8) (kk : ∀ (u' : dS), post u' → gG E (pc + 3) lv st u') : gG E pc lv (v2 :: v1 :: .ref (a 0) :: st) u := gcallv g k (dk_rec a u) (lw_V q111 q113 qs1 q31 q114) (na := 2) (by decide +kernel) rfl hM hR hd rfl hs kk
theorem dk_call_possible (g : gOk E cc RX0) (k : cOk dkC E l f n a) {f' n' : Nat} {post : Int32 → dS → Prop} (hd : decode cc pc = .ok (.invokevirtual 65, 3)) (hM : gMi dkC l yX0_possible cX0_possible 1 (some .boolean) (gR f' n') [] u post) (hR : f' + 1 ≤ f ∧ 8 + (1 + 11) + n' ≤ n) (hs : (st.map fun v => v.category).sum ≤ 8) (kk : ∀ (r : Int32) (u' : dS), post r u' → gG E (pc + 3) lv (.int r :: st) u') : gG E pc lv (.ref (a 0) :: st) u := gcalli g k (dk_rec a u) (lw_V q115 q117 qs2 q31 q118) (na := 0) (by decide +kernel) rfl hM hR hd rfl hs kk
theorem dk_call_begin (g : gOk E cc RX0) (k : cOk dkC E l f n a) {f' n' : Nat} {v1 : Value} {post : dS → Prop} (hd : decode cc pc = .ok (.invokevirtual 98, 3)) (hM : gMv dkC l yX0_begin cX0_begin 3 (gR f' n') [v1] u post) (hR : f' + 1 ≤ f ∧ 8 + (3 + 11) + n' ≤ n) (hs : (st.map fun v => v.category).sum ≤ 8) (kk : ∀ (u' : dS), post u' → gG E (pc + 3) lv st u') : gG E pc lv (v1 :: .ref (a 0) :: st) u := gcallv g k (dk_rec a u) (lw_V q119 q121 qs3 q31 q122) (na := 1) (by decide +kernel) rfl hM hR hd rfl hs kk
theorem dk_call_giveMusts (g : gOk E cc RX0) (k : cOk dkC E l f n a) {f' n' : Nat} {post : Int32 → dS → Prop} (hd : decode cc pc = .ok (.invokevirtual 102, 3)) (hM : gMi dkC l yX0_giveMusts cX0_giveMusts 2 (some .boolean) (gR f' n') [] u post) (hR : f' + 1 ≤ f ∧ 8 + (2 + 11) + n' ≤ n) (hs : (st.map fun v => v.category).sum ≤ 8) (kk : ∀ (r : Int32) (u' : dS), post r u' → gG E (pc + 3) lv (.int r :: st) u') : gG E pc lv (.ref (a 0) :: st) u := gcalli g k (dk_rec a u) (lw_V q123 q125 qs4 q31 q126) (na := 0) (by decide +kernel) rfl hM hR hd rfl hs kk
theorem dk_call_giveMany (g : gOk E cc RX0) (k : cOk dkC E l f n a) {f' n' : Nat} {v1 v2 : Value} {post : Int32 → dS → Prop} (hd : decode cc pc = .ok (.invokevirtual 95, 3)) (hM : gMi dkC l yX0_giveMany cX0_giveMany 4 (some .boolean) (gR f' n') [v1, v2] u post) (hR : f' + 1 ≤ f ∧ 8 + (4 + 11) + n' ≤ n) (hs : (st.map fun v => v.category).sum ≤ 8) (kk : ∀ (r : Int32) (u' : dS), post r u' → gG E (pc + 3) lv (.int r :: st) u') : gG E pc lv (v2 :: v1 :: .ref (a 0) :: st) u := gcalli g k (dk_rec a u) (lw_V q127 q129 qs5 q31 q130) (na := 2) (by decide +kernel) rfl hM hR hd rfl hs kk
theorem dk_call_give (g : gOk E cc RX0) (k : cOk dkC E l f n a) {f' n' : Nat} {v1 : Value} {post : Int32 → dS → Prop} (hd : decode cc pc = .ok (.invokevirtual 92, 3)) (hM : gMi dkC l yX0_give cX0_give 4 (some .boolean) (gR f' n') [v1] u post) (hR : f' + 1 ≤ f ∧ 8 + (4 + 11) + n' ≤ n) (hs : (st.map fun v => v.category).sum ≤ 8) (kk : ∀ (r : Int32) (u' : dS), post r u' → gG E (pc + 3) lv (.int r :: st) u') : gG E pc lv (v1 :: .ref (a 0) :: st) u := gcalli g k (dk_rec a u) (lw_V q131 q133 qs6 q31 q134) (na := 1) (by decide +kernel) rfl hM hR hd rfl hs kk
theorem dk_call_look (g : gOk E cc RX0) (k : cOk dkC E l f n a) {f' n' : Nat} {v1 : Value} {post : Int32 → dS → Prop} (hd : decode cc pc = .ok (.invokevirtual 81, 3)) (hM : gMi dkC l yX0_look cX0_look 4 (some .int) (gR f' n') [v1] u post) (hR : f' + 1 ≤ f ∧ 8 + (4 + 11) + n' ≤ n) (hs : (st.map fun v => v.category).sum ≤ 8) (kk : ∀ (r : Int32) (u' : dS), post r u' → gG E (pc + 3) lv (.int r :: st) u') : gG E pc lv (v1 :: .ref (a 0) :: st) u := gcalli g k (dk_rec a u) (lw_V q135 q137 qs7 q31 q138) (na := 1) (by decide +kernel) rfl hM hR hd rfl hs kk
theorem dk_call_inWindow (g : gOk E cc RX0) (k : cOk dkC E l f n a) {f' n' : Nat} {v1 v2 : Value} {post : Int32 → dS → Prop} (hd : decode cc pc = .ok (.invokevirtual 88, 3)) (hM : gMi dkC l yX0_inWindow cX0_inWindow 3 (some .boolean) (gR f' n') [v1, v2] u post) (hR : f' + 1 ≤ f ∧ 8 + (3 + 11) + n' ≤ n) (hs : (st.map fun v => v.category).sum ≤ 8) (kk : ∀ (r : Int32) (u' : dS), post r u' → gG E (pc + 3) lv (.int r :: st) u') : gG E pc lv (v2 :: v1 :: .ref (a 0) :: st) u := gcalli g k (dk_rec a u) (lw_V q139 q141 qs8 q31 q142) (na := 2) (by decide +kernel) rfl hM hR hd rfl hs kk
theorem dk_call_shift (g : gOk E cc RX0) (k : cOk dkC E l f n a) {f' n' : Nat} {v1 v2 : Value} {post : dS → Prop} (hd : decode cc pc = .ok (.invokevirtual 85, 3)) (hM : gMv dkC l yX0_shift cX0_shift 6 (gR f' n') [v1, v2] u post) (hR : f' + 1 ≤ f ∧ 8 + (6 + 11) + n' ≤ n) (hs : (st.map fun v => v.category).sum ≤ 8) (kk : ∀ (u' : dS), post u' → gG E (pc + 3) lv st u') : gG E pc lv (v2 :: v1 :: .ref (a 0) :: st) u := gcallv g k (dk_rec a u) (lw_V q143 q145 qs9 q31 q146) (na := 2) (by decide +kernel) rfl hM hR hd rfl hs kk
theorem dk_call_learn (g : gOk E cc RX0) (k : cOk dkC E l f n a) {f' n' : Nat} {post : dS → Prop} (hd : decode cc pc = .ok (.invokevirtual 120, 3)) (hM : gMv dkC l yX0_learn cX0_learn 2 (gR f' n') [] u post) (hR : f' + 1 ≤ f ∧ 8 + (2 + 11) + n' ≤ n) (hs : (st.map fun v => v.category).sum ≤ 8) (kk : ∀ (u' : dS), post u' → gG E (pc + 3) lv st u') : gG E pc lv (.ref (a 0) :: st) u := gcallv g k (dk_rec a u) (lw_V q171 q173 qs10 q31 q174) (na := 0) (by decide +kernel) rfl hM hR hd rfl hs kk
theorem dk_call_leastLossWith (g : gOk E cc RX0) (k : cOk dkC E l f n a) {f' n' : Nat} {v1 : Value} {post : Int32 → dS → Prop} (hd : decode cc pc = .ok (.invokevirtual 108, 3)) (hM : gMi dkC l yX0_leastLossWith cX0_leastLossWith 7 (some .int) (gR f' n') [v1] u post) (hR : f' + 1 ≤ f ∧ 8 + (7 + 11) + n' ≤ n) (hs : (st.map fun v => v.category).sum ≤ 8) (kk : ∀ (r : Int32) (u' : dS), post r u' → gG E (pc + 3) lv (.int r :: st) u') : gG E pc lv (v1 :: .ref (a 0) :: st) u := gcalli g k (dk_rec a u) (lw_V q175 q177 qs11 q31 q178) (na := 1) (by decide +kernel) rfl hM hR hd rfl hs kk
theorem dk_call_nextInOrder (g : gOk E cc RX0) (k : cOk dkC E l f n a) {f' n' : Nat} {v1 : Value} {post : Int32 → dS → Prop} (hd : decode cc pc = .ok (.invokevirtual 105, 3)) (hM : gMi dkC l yX0_nextInOrder cX0_nextInOrder 4 (some .int) (gR f' n') [v1] u post) (hR : f' + 1 ≤ f ∧ 8 + (4 + 11) + n' ≤ n) (hs : (st.map fun v => v.category).sum ≤ 8) (kk : ∀ (r : Int32) (u' : dS), post r u' → gG E (pc + 3) lv (.int r :: st) u') : gG E pc lv (v1 :: .ref (a 0) :: st) u := gcalli g k (dk_rec a u) (lw_V q179 q181 qs12 q31 q182) (na := 1) (by decide +kernel) rfl hM hR hd rfl hs kk
theorem dk_call_firstOwner (g : gOk E cc RX0) (k : cOk dkC E l f n a) {f' n' : Nat} {v1 : Value} {post : Int32 → dS → Prop} (hd : decode cc pc = .ok (.invokevirtual 114, 3)) (hM : gMi dkC l yX0_firstOwner cX0_firstOwner 4 (some .int) (gR f' n') [v1] u post) (hR : f' + 1 ≤ f ∧ 8 + (4 + 11) + n' ≤ n) (hs : (st.map fun v => v.category).sum ≤ 8) (kk : ∀ (r : Int32) (u' : dS), post r u' → gG E (pc + 3) lv (.int r :: st) u') : gG E pc lv (v1 :: .ref (a 0) :: st) u := gcalli g k (dk_rec a u) (lw_V q183 q185 qs13 q31 q186) (na := 1) (by decide +kernel) rfl hM hR hd rfl hs kk
theorem dk_call_restFits (g : gOk E cc RX0) (k : cOk dkC E l f n a) {f' n' : Nat} {v1 : Value} {post : Int32 → dS → Prop} (hd : decode cc pc = .ok (.invokevirtual 117, 3)) (hM : gMi dkC l yX0_restFits cX0_restFits 3 (some .boolean) (gR f' n') [v1] u post) (hR : f' + 1 ≤ f ∧ 8 + (3 + 11) + n' ≤ n) (hs : (st.map fun v => v.category).sum ≤ 8) (kk : ∀ (r : Int32) (u' : dS), post r u' → gG E (pc + 3) lv (.int r :: st) u') : gG E pc lv (v1 :: .ref (a 0) :: st) u := gcalli g k (dk_rec a u) (lw_V q187 q189 qs14 q31 q190) (na := 1) (by decide +kernel) rfl hM hR hd rfl hs kk
theorem dk_call_span (g : gOk E cc RX0) (k : cOk dkC E l f n a) {f' n' : Nat} {v1 v2 : Value} {post : Int32 → dS → Prop} (hd : decode cc pc = .ok (.invokestatic 123, 3)) (hM : gSi dkC l yX0_span cX0_span 2 (some .int) (gR f' n') [v1, v2] u post) (hR : f' + 1 ≤ f ∧ 8 + (2 + 11) + n' ≤ n) (hs : (st.map fun v => v.category).sum ≤ 8) (kk : ∀ (r : Int32) (u' : dS), post r u' → gG E (pc + 3) lv (.int r :: st) u') : gG E pc lv (v2 :: v1 :: st) u := gcalls g k (lw_S q211 q212 q31 q213) (na := 2) (by decide +kernel) rfl hM hR hd rfl hs kk
theorem dk_call_count (g : gOk E cc RX0) (k : cOk dkC E l f n a) {f' n' : Nat} {v1 : Value} {post : Int32 → dS → Prop} (hd : decode cc pc = .ok (.invokestatic 127, 3)) (hM : gSi dkC l yX0_count cX0_count 3 (some .int) (gR f' n') [v1] u post) (hR : f' + 1 ≤ f ∧ 8 + (3 + 11) + n' ≤ n) (hs : (st.map fun v => v.category).sum ≤ 8) (kk : ∀ (r : Int32) (u' : dS), post r u' → gG E (pc + 3) lv (.int r :: st) u') : gG E pc lv (v1 :: st) u := gcalls g k (lw_S q214 q215 q31 q216) (na := 1) (by decide +kernel) rfl hM hR hd rfl hs kk
end
end
section
/-! ImpreciseDeskModel: its picture, a row a field, a row a call -/
def moW (a : Nat → Nat) (d : Nat → ClassId) (u : dS) : va_W := [(a 0, .inr (1, [.ref (a 13), .ref (a 1), .ref (a 2), .ref (a 3), .ref (a 4), .ref (a 5), .int (u.1 6), .ref (a 7), .ref (a 8), .int (u.1 9), .ref (a 10), .ref (a 11), .ref (a 12)])), (a 13, .inl (d 13, 6, .inl (u.2 0))), (a 1, .inl (d 1, 6, .inl (u.2 1))), (a 2, .inl (d 2, 6, .inl (u.2 2))), (a 3, .inl (d 3, 6, .inl (u.2 3))), (a 4, .inl (d 4, 6, .inl (u.2 4))), (a 5, .inl (d 5, 6, .inl (u.2 5))), (a 7, .inl (d 7, 64, .inl (u.2 7))), (a 8, .inl (d 8, 6, .inl (u.2 8))), (a 10, .inl (d 10, 6, .inl (u.2 10))), (a 11, .inl (d 11, 6, .inl (u.2 11))), (a 12, .inl (d 12, 6, .inl (u.2 12)))]
def moTy (d : Nat → ClassId) : List (ClassId × FieldType) := [(d 13, .boolean), (d 1, .int), (d 2, .int), (d 3, .int), (d 4, .int), (d 5, .int), (d 7, .int), (d 8, .int), (d 10, .int), (d 11, .int), (d 12, .int)]
abbrev moC : gC := (moW, moTy)
theorem mo_rec (a : Nat → Nat) (u : dS) : ∀ d, ∃ (ci : Nat) (fs : List Value) (q : vw_C), (moC.1 a d u)[0]? = some (a 0, .inr (ci, fs)) ∧ vwCl[ci]? = some q ∧ q.1 = RX1 := fun d => ⟨1, _, _, rfl, rfl, rfl⟩
section
variable {E : gE dS} {cc : ByteArray} {l : Launch} {f n : Nat} {a : Nat → Nat} {pc : Nat} {lv : List (Option Value)} {st : List Value} {u : dS}
theorem mo_get0 (g : gOk E cc RX1) (k : cOk moC E l f n a) (hd : decode cc pc = .ok (.getfield 7, 3)) (kk : gG E (pc + 3) lv (.ref (a 13) :: st) u) : gG E pc lv (.ref (a 0) :: st) u := by
  obtain ⟨p, l', e, R, s, m, args, below, meth, c, Q, D, tys, w, A, nL, cells, slots⟩ := E
  obtain ⟨rfl, rfl, rfl, rfl, d, rfl, rfl⟩ := k
  obtain ⟨hx, hb, hml, hown, hts, hA, hlk⟩ := g
  intro H locs ls hK hP hD hS h
  exact va_get (D := D) (ci := 1) (C := RX1) (T := TX1) (N := 13) (v := .ref (a 13)) hx hb hts in_X1 hown hK hP 0 rfl rfl 0 (by decide) (hts _ q227) (fun _ h9 => h9) rfl hd (kk H locs ls hK hP hD hS h)
theorem mo_get1 (g : gOk E cc RX1) (k : cOk moC E l f n a) (hd : decode cc pc = .ok (.getfield 13, 3)) (kk : gG E (pc + 3) lv (.ref (a 1) :: st) u) : gG E pc lv (.ref (a 0) :: st) u := by
  obtain ⟨p, l', e, R, s, m, args, below, meth, c, Q, D, tys, w, A, nL, cells, slots⟩ := E
  obtain ⟨rfl, rfl, rfl, rfl, d, rfl, rfl⟩ := k
  obtain ⟨hx, hb, hml, hown, hts, hA, hlk⟩ := g
  intro H locs ls hK hP hD hS h
  exact va_get (D := D) (ci := 1) (C := RX1) (T := TX1) (N := 13) (v := .ref (a 1)) hx hb hts in_X1 hown hK hP 0 rfl rfl 1 (by decide) (hts _ q228) (fun _ h9 => h9) rfl hd (kk H locs ls hK hP hD hS h)
theorem mo_get2 (g : gOk E cc RX1) (k : cOk moC E l f n a) (hd : decode cc pc = .ok (.getfield 17, 3)) (kk : gG E (pc + 3) lv (.ref (a 2) :: st) u) : gG E pc lv (.ref (a 0) :: st) u := by
  obtain ⟨p, l', e, R, s, m, args, below, meth, c, Q, D, tys, w, A, nL, cells, slots⟩ := E
  obtain ⟨rfl, rfl, rfl, rfl, d, rfl, rfl⟩ := k
  obtain ⟨hx, hb, hml, hown, hts, hA, hlk⟩ := g
  intro H locs ls hK hP hD hS h
  exact va_get (D := D) (ci := 1) (C := RX1) (T := TX1) (N := 13) (v := .ref (a 2)) hx hb hts in_X1 hown hK hP 0 rfl rfl 2 (by decide) (hts _ q229) (fun _ h9 => h9) rfl hd (kk H locs ls hK hP hD hS h)
theorem mo_get3 (g : gOk E cc RX1) (k : cOk moC E l f n a) (hd : decode cc pc = .ok (.getfield 20, 3)) (kk : gG E (pc + 3) lv (.ref (a 3) :: st) u) : gG E pc lv (.ref (a 0) :: st) u := by
  obtain ⟨p, l', e, R, s, m, args, below, meth, c, Q, D, tys, w, A, nL, cells, slots⟩ := E
  obtain ⟨rfl, rfl, rfl, rfl, d, rfl, rfl⟩ := k
  obtain ⟨hx, hb, hml, hown, hts, hA, hlk⟩ := g
  intro H locs ls hK hP hD hS h
  exact va_get (D := D) (ci := 1) (C := RX1) (T := TX1) (N := 13) (v := .ref (a 3)) hx hb hts in_X1 hown hK hP 0 rfl rfl 3 (by decide) (hts _ q230) (fun _ h9 => h9) rfl hd (kk H locs ls hK hP hD hS h)
theorem mo_get4 (g : gOk E cc RX1) (k : cOk moC E l f n a) (hd : decode cc pc = .ok (.getfield 23, 3)) (kk : gG E (pc + 3) lv (.ref (a 4) :: st) u) : gG E pc lv (.ref (a 0) :: st) u := by
  obtain ⟨p, l', e, R, s, m, args, below, meth, c, Q, D, tys, w, A, nL, cells, slots⟩ := E
  obtain ⟨rfl, rfl, rfl, rfl, d, rfl, rfl⟩ := k
  obtain ⟨hx, hb, hml, hown, hts, hA, hlk⟩ := g
  intro H locs ls hK hP hD hS h
  exact va_get (D := D) (ci := 1) (C := RX1) (T := TX1) (N := 13) (v := .ref (a 4)) hx hb hts in_X1 hown hK hP 0 rfl rfl 4 (by decide) (hts _ q231) (fun _ h9 => h9) rfl hd (kk H locs ls hK hP hD hS h)
theorem mo_get5 (g : gOk E cc RX1) (k : cOk moC E l f n a) (hd : decode cc pc = .ok (.getfield 26, 3)) (kk : gG E (pc + 3) lv (.ref (a 5) :: st) u) : gG E pc lv (.ref (a 0) :: st) u := by
  obtain ⟨p, l', e, R, s, m, args, below, meth, c, Q, D, tys, w, A, nL, cells, slots⟩ := E
  obtain ⟨rfl, rfl, rfl, rfl, d, rfl, rfl⟩ := k
  obtain ⟨hx, hb, hml, hown, hts, hA, hlk⟩ := g
  intro H locs ls hK hP hD hS h
  exact va_get (D := D) (ci := 1) (C := RX1) (T := TX1) (N := 13) (v := .ref (a 5)) hx hb hts in_X1 hown hK hP 0 rfl rfl 5 (by decide) (hts _ q232) (fun _ h9 => h9) rfl hd (kk H locs ls hK hP hD hS h)
theorem mo_get6 (g : gOk E cc RX1) (k : cOk moC E l f n a) (hd : decode cc pc = .ok (.getfield 44, 3)) (kk : gG E (pc + 3) lv (.int (u.1 6) :: st) u) : gG E pc lv (.ref (a 0) :: st) u := by
  obtain ⟨p, l', e, R, s, m, args, below, meth, c, Q, D, tys, w, A, nL, cells, slots⟩ := E
  obtain ⟨rfl, rfl, rfl, rfl, d, rfl, rfl⟩ := k
  obtain ⟨hx, hb, hml, hown, hts, hA, hlk⟩ := g
  intro H locs ls hK hP hD hS h
  exact va_get (D := D) (ci := 1) (C := RX1) (T := TX1) (N := 13) (v := .int (u.1 6)) hx hb hts in_X1 hown hK hP 0 rfl rfl 6 (by decide) (hts _ q233) (fun _ h9 => h9) rfl hd (kk H locs ls hK hP hD hS h)
theorem mo_put6 (g : gOk E cc RX1) (k : cOk moC E l f n a) {x : Int32} (hd : decode cc pc = .ok (.putfield 44, 3)) (kk : gG E (pc + 3) lv st (dI u 6 x)) : gG E pc lv (.int x :: .ref (a 0) :: st) u := by
  obtain ⟨p, l', e, R, s, m, args, below, meth, c, Q, D, tys, w, A, nL, cells, slots⟩ := E
  obtain ⟨rfl, rfl, rfl, rfl, d, rfl, rfl⟩ := k
  obtain ⟨hx, hb, hml, hown, hts, hA, hlk⟩ := g
  intro H locs ls hK hP hD hS h
  refine va_put (D := D) (ci := 1) (C := RX1) (T := TX1) (N := 13) (v := .int x) (ty := .int) hx hb hts in_X1 tyX1 tyX1_ok nmX1 hown hK hP hD hS 0 rfl rfl 6 (by decide) (hts _ q233) (fun _ h9 => h9) rfl (by decide +kernel) rfl rfl (Nat.le_of_ble_eq_true rfl) hd (fun H1 locs1 hP1 hD1 hS1 => ?_)
  exact kk H1 locs1 ls hK hP1 hD1 hS1 h
theorem mo_get7 (g : gOk E cc RX1) (k : cOk moC E l f n a) (hd : decode cc pc = .ok (.getfield 29, 3)) (kk : gG E (pc + 3) lv (.ref (a 7) :: st) u) : gG E pc lv (.ref (a 0) :: st) u := by
  obtain ⟨p, l', e, R, s, m, args, below, meth, c, Q, D, tys, w, A, nL, cells, slots⟩ := E
  obtain ⟨rfl, rfl, rfl, rfl, d, rfl, rfl⟩ := k
  obtain ⟨hx, hb, hml, hown, hts, hA, hlk⟩ := g
  intro H locs ls hK hP hD hS h
  exact va_get (D := D) (ci := 1) (C := RX1) (T := TX1) (N := 13) (v := .ref (a 7)) hx hb hts in_X1 hown hK hP 0 rfl rfl 7 (by decide) (hts _ q234) (fun _ h9 => h9) rfl hd (kk H locs ls hK hP hD hS h)
theorem mo_get8 (g : gOk E cc RX1) (k : cOk moC E l f n a) (hd : decode cc pc = .ok (.getfield 32, 3)) (kk : gG E (pc + 3) lv (.ref (a 8) :: st) u) : gG E pc lv (.ref (a 0) :: st) u := by
  obtain ⟨p, l', e, R, s, m, args, below, meth, c, Q, D, tys, w, A, nL, cells, slots⟩ := E
  obtain ⟨rfl, rfl, rfl, rfl, d, rfl, rfl⟩ := k
  obtain ⟨hx, hb, hml, hown, hts, hA, hlk⟩ := g
  intro H locs ls hK hP hD hS h
  exact va_get (D := D) (ci := 1) (C := RX1) (T := TX1) (N := 13) (v := .ref (a 8)) hx hb hts in_X1 hown hK hP 0 rfl rfl 8 (by decide) (hts _ q235) (fun _ h9 => h9) rfl hd (kk H locs ls hK hP hD hS h)
theorem mo_get9 (g : gOk E cc RX1) (k : cOk moC E l f n a) (hd : decode cc pc = .ok (.getfield 74, 3)) (kk : gG E (pc + 3) lv (.int (u.1 9) :: st) u) : gG E pc lv (.ref (a 0) :: st) u := by
  obtain ⟨p, l', e, R, s, m, args, below, meth, c, Q, D, tys, w, A, nL, cells, slots⟩ := E
  obtain ⟨rfl, rfl, rfl, rfl, d, rfl, rfl⟩ := k
  obtain ⟨hx, hb, hml, hown, hts, hA, hlk⟩ := g
  intro H locs ls hK hP hD hS h
  exact va_get (D := D) (ci := 1) (C := RX1) (T := TX1) (N := 13) (v := .int (u.1 9)) hx hb hts in_X1 hown hK hP 0 rfl rfl 9 (by decide) (hts _ q236) (fun _ h9 => h9) rfl hd (kk H locs ls hK hP hD hS h)
theorem mo_put9 (g : gOk E cc RX1) (k : cOk moC E l f n a) {x : Int32} (hd : decode cc pc = .ok (.putfield 74, 3)) (kk : gG E (pc + 3) lv st (dI u 9 x)) : gG E pc lv (.int x :: .ref (a 0) :: st) u := by
  obtain ⟨p, l', e, R, s, m, args, below, meth, c, Q, D, tys, w, A, nL, cells, slots⟩ := E
  obtain ⟨rfl, rfl, rfl, rfl, d, rfl, rfl⟩ := k
  obtain ⟨hx, hb, hml, hown, hts, hA, hlk⟩ := g
  intro H locs ls hK hP hD hS h
  refine va_put (D := D) (ci := 1) (C := RX1) (T := TX1) (N := 13) (v := .int x) (ty := .int) hx hb hts in_X1 tyX1 tyX1_ok nmX1 hown hK hP hD hS 0 rfl rfl 9 (by decide) (hts _ q236) (fun _ h9 => h9) rfl (by decide +kernel) rfl rfl (Nat.le_of_ble_eq_true rfl) hd (fun H1 locs1 hP1 hD1 hS1 => ?_)
  exact kk H1 locs1 ls hK hP1 hD1 hS1 h
theorem mo_get10 (g : gOk E cc RX1) (k : cOk moC E l f n a) (hd : decode cc pc = .ok (.getfield 35, 3)) (kk : gG E (pc + 3) lv (.ref (a 10) :: st) u) : gG E pc lv (.ref (a 0) :: st) u := by
  obtain ⟨p, l', e, R, s, m, args, below, meth, c, Q, D, tys, w, A, nL, cells, slots⟩ := E
  obtain ⟨rfl, rfl, rfl, rfl, d, rfl, rfl⟩ := k
  obtain ⟨hx, hb, hml, hown, hts, hA, hlk⟩ := g
  intro H locs ls hK hP hD hS h
  exact va_get (D := D) (ci := 1) (C := RX1) (T := TX1) (N := 13) (v := .ref (a 10)) hx hb hts in_X1 hown hK hP 0 rfl rfl 10 (by decide) (hts _ q237) (fun _ h9 => h9) rfl hd (kk H locs ls hK hP hD hS h)
theorem mo_get11 (g : gOk E cc RX1) (k : cOk moC E l f n a) (hd : decode cc pc = .ok (.getfield 38, 3)) (kk : gG E (pc + 3) lv (.ref (a 11) :: st) u) : gG E pc lv (.ref (a 0) :: st) u := by
  obtain ⟨p, l', e, R, s, m, args, below, meth, c, Q, D, tys, w, A, nL, cells, slots⟩ := E
  obtain ⟨rfl, rfl, rfl, rfl, d, rfl, rfl⟩ := k
  obtain ⟨hx, hb, hml, hown, hts, hA, hlk⟩ := g
  intro H locs ls hK hP hD hS h
  exact va_get (D := D) (ci := 1) (C := RX1) (T := TX1) (N := 13) (v := .ref (a 11)) hx hb hts in_X1 hown hK hP 0 rfl rfl 11 (by decide) (hts _ q238) (fun _ h9 => h9) rfl hd (kk H locs ls hK hP hD hS h)
theorem mo_get12 (g : gOk E cc RX1) (k : cOk moC E l f n a) (hd : decode cc pc = .ok (.getfield 41, 3)) (kk : gG E (pc + 3) lv (.ref (a 12) :: st) u) : gG E pc lv (.ref (a 0) :: st) u := by
  obtain ⟨p, l', e, R, s, m, args, below, meth, c, Q, D, tys, w, A, nL, cells, slots⟩ := E
  obtain ⟨rfl, rfl, rfl, rfl, d, rfl, rfl⟩ := k
  obtain ⟨hx, hb, hml, hown, hts, hA, hlk⟩ := g
  intro H locs ls hK hP hD hS h
  exact va_get (D := D) (ci := 1) (C := RX1) (T := TX1) (N := 13) (v := .ref (a 12)) hx hb hts in_X1 hown hK hP 0 rfl rfl 12 (by decide) (hts _ q239) (fun _ h9 => h9) rfl hd (kk H locs ls hK hP hD hS h)
theorem mo_ld0 (g : gOk E cc RX1) (k : cOk moC E l f n a) {i : Int32} {j : Nat} (hd : decode cc pc = .ok (.baload, 1)) (hi : i = nI j) (hj : j < 6) (kk : gG E (pc + 1) lv (.int (u.2 0 j) :: st) u) : gG E pc lv (.int i :: .ref (a 13) :: st) u := by
  subst hi
  obtain ⟨p, l', e, R, s, m, args, below, meth, c, Q, D, tys, w, A, nL, cells, slots⟩ := E
  obtain ⟨rfl, rfl, rfl, rfl, d, rfl, rfl⟩ := k
  obtain ⟨hx, hb, hml, hown, hts, hA, hlk⟩ := g
  intro H locs ls hK hP hD hS h
  refine va_zald hx hb hK hP 1 0 rfl rfl (vp_in_nI hj (by decide)) hd ?_
  rw [nI_clamp (by omega)]
  exact kk H locs ls hK hP hD hS h
theorem mo_st0 (g : gOk E cc RX1) (k : cOk moC E l f n a) {i x : Int32} {j : Nat} (hd : decode cc pc = .ok (.bastore, 1)) (hi : i = nI j) (hj : j < 6) (hv : vp_nar .boolean x = x) (kk : gG E (pc + 1) lv st (dF u 0 j x)) : gG E pc lv (.int x :: .int i :: .ref (a 13) :: st) u := by
  subst hi
  obtain ⟨p, l', e, R, s, m, args, below, meth, c, Q, D, tys, w, A, nL, cells, slots⟩ := E
  obtain ⟨rfl, rfl, rfl, rfl, d, rfl, rfl⟩ := k
  obtain ⟨hx, hb, hml, hown, hts, hA, hlk⟩ := g
  intro H locs ls hK hP hD hS h
  refine va_zast hx hb hK hP hD hS 1 0 rfl rfl (vp_in_nI hj (by decide)) hd (fun H1 locs1 hP1 hD1 hS1 => ?_)
  rw [nI_clamp (by omega), hv] at hP1 hD1
  exact kk H1 locs1 ls hK hP1 hD1 hS1 h
theorem mo_ld1 (g : gOk E cc RX1) (k : cOk moC E l f n a) {i : Int32} {j : Nat} (hd : decode cc pc = .ok (.iaload, 1)) (hi : i = nI j) (hj : j < 6) (kk : gG E (pc + 1) lv (.int (u.2 1 j) :: st) u) : gG E pc lv (.int i :: .ref (a 1) :: st) u := by
  subst hi
  obtain ⟨p, l', e, R, s, m, args, below, meth, c, Q, D, tys, w, A, nL, cells, slots⟩ := E
  obtain ⟨rfl, rfl, rfl, rfl, d, rfl, rfl⟩ := k
  obtain ⟨hx, hb, hml, hown, hts, hA, hlk⟩ := g
  intro H locs ls hK hP hD hS h
  refine va_iald hx hb hK hP 2 1 rfl rfl (vp_in_nI hj (by decide)) hd ?_
  rw [nI_clamp (by omega)]
  exact kk H locs ls hK hP hD hS h
theorem mo_st1 (g : gOk E cc RX1) (k : cOk moC E l f n a) {i x : Int32} {j : Nat} (hd : decode cc pc = .ok (.iastore, 1)) (hi : i = nI j) (hj : j < 6) (kk : gG E (pc + 1) lv st (dF u 1 j x)) : gG E pc lv (.int x :: .int i :: .ref (a 1) :: st) u := by
  subst hi
  obtain ⟨p, l', e, R, s, m, args, below, meth, c, Q, D, tys, w, A, nL, cells, slots⟩ := E
  obtain ⟨rfl, rfl, rfl, rfl, d, rfl, rfl⟩ := k
  obtain ⟨hx, hb, hml, hown, hts, hA, hlk⟩ := g
  intro H locs ls hK hP hD hS h
  refine va_iast hx hb hK hP hD hS 2 1 rfl rfl (vp_in_nI hj (by decide)) hd (fun H1 locs1 hP1 hD1 hS1 => ?_)
  rw [nI_clamp (by omega)] at hP1 hD1
  exact kk H1 locs1 ls hK hP1 hD1 hS1 h
theorem mo_ld2 (g : gOk E cc RX1) (k : cOk moC E l f n a) {i : Int32} {j : Nat} (hd : decode cc pc = .ok (.iaload, 1)) (hi : i = nI j) (hj : j < 6) (kk : gG E (pc + 1) lv (.int (u.2 2 j) :: st) u) : gG E pc lv (.int i :: .ref (a 2) :: st) u := by
  subst hi
  obtain ⟨p, l', e, R, s, m, args, below, meth, c, Q, D, tys, w, A, nL, cells, slots⟩ := E
  obtain ⟨rfl, rfl, rfl, rfl, d, rfl, rfl⟩ := k
  obtain ⟨hx, hb, hml, hown, hts, hA, hlk⟩ := g
  intro H locs ls hK hP hD hS h
  refine va_iald hx hb hK hP 3 2 rfl rfl (vp_in_nI hj (by decide)) hd ?_
  rw [nI_clamp (by omega)]
  exact kk H locs ls hK hP hD hS h
theorem mo_st2 (g : gOk E cc RX1) (k : cOk moC E l f n a) {i x : Int32} {j : Nat} (hd : decode cc pc = .ok (.iastore, 1)) (hi : i = nI j) (hj : j < 6) (kk : gG E (pc + 1) lv st (dF u 2 j x)) : gG E pc lv (.int x :: .int i :: .ref (a 2) :: st) u := by
  subst hi
  obtain ⟨p, l', e, R, s, m, args, below, meth, c, Q, D, tys, w, A, nL, cells, slots⟩ := E
  obtain ⟨rfl, rfl, rfl, rfl, d, rfl, rfl⟩ := k
  obtain ⟨hx, hb, hml, hown, hts, hA, hlk⟩ := g
  intro H locs ls hK hP hD hS h
  refine va_iast hx hb hK hP hD hS 3 2 rfl rfl (vp_in_nI hj (by decide)) hd (fun H1 locs1 hP1 hD1 hS1 => ?_)
  rw [nI_clamp (by omega)] at hP1 hD1
  exact kk H1 locs1 ls hK hP1 hD1 hS1 h
theorem mo_ld3 (g : gOk E cc RX1) (k : cOk moC E l f n a) {i : Int32} {j : Nat} (hd : decode cc pc = .ok (.iaload, 1)) (hi : i = nI j) (hj : j < 6) (kk : gG E (pc + 1) lv (.int (u.2 3 j) :: st) u) : gG E pc lv (.int i :: .ref (a 3) :: st) u := by
  subst hi
  obtain ⟨p, l', e, R, s, m, args, below, meth, c, Q, D, tys, w, A, nL, cells, slots⟩ := E
  obtain ⟨rfl, rfl, rfl, rfl, d, rfl, rfl⟩ := k
  obtain ⟨hx, hb, hml, hown, hts, hA, hlk⟩ := g
  intro H locs ls hK hP hD hS h
  refine va_iald hx hb hK hP 4 3 rfl rfl (vp_in_nI hj (by decide)) hd ?_
  rw [nI_clamp (by omega)]
  exact kk H locs ls hK hP hD hS h
theorem mo_st3 (g : gOk E cc RX1) (k : cOk moC E l f n a) {i x : Int32} {j : Nat} (hd : decode cc pc = .ok (.iastore, 1)) (hi : i = nI j) (hj : j < 6) (kk : gG E (pc + 1) lv st (dF u 3 j x)) : gG E pc lv (.int x :: .int i :: .ref (a 3) :: st) u := by
  subst hi
  obtain ⟨p, l', e, R, s, m, args, below, meth, c, Q, D, tys, w, A, nL, cells, slots⟩ := E
  obtain ⟨rfl, rfl, rfl, rfl, d, rfl, rfl⟩ := k
  obtain ⟨hx, hb, hml, hown, hts, hA, hlk⟩ := g
  intro H locs ls hK hP hD hS h
  refine va_iast hx hb hK hP hD hS 4 3 rfl rfl (vp_in_nI hj (by decide)) hd (fun H1 locs1 hP1 hD1 hS1 => ?_)
  rw [nI_clamp (by omega)] at hP1 hD1
  exact kk H1 locs1 ls hK hP1 hD1 hS1 h
theorem mo_ld4 (g : gOk E cc RX1) (k : cOk moC E l f n a) {i : Int32} {j : Nat} (hd : decode cc pc = .ok (.iaload, 1)) (hi : i = nI j) (hj : j < 6) (kk : gG E (pc + 1) lv (.int (u.2 4 j) :: st) u) : gG E pc lv (.int i :: .ref (a 4) :: st) u := by
  subst hi
  obtain ⟨p, l', e, R, s, m, args, below, meth, c, Q, D, tys, w, A, nL, cells, slots⟩ := E
  obtain ⟨rfl, rfl, rfl, rfl, d, rfl, rfl⟩ := k
  obtain ⟨hx, hb, hml, hown, hts, hA, hlk⟩ := g
  intro H locs ls hK hP hD hS h
  refine va_iald hx hb hK hP 5 4 rfl rfl (vp_in_nI hj (by decide)) hd ?_
  rw [nI_clamp (by omega)]
  exact kk H locs ls hK hP hD hS h
theorem mo_st4 (g : gOk E cc RX1) (k : cOk moC E l f n a) {i x : Int32} {j : Nat} (hd : decode cc pc = .ok (.iastore, 1)) (hi : i = nI j) (hj : j < 6) (kk : gG E (pc + 1) lv st (dF u 4 j x)) : gG E pc lv (.int x :: .int i :: .ref (a 4) :: st) u := by
  subst hi
  obtain ⟨p, l', e, R, s, m, args, below, meth, c, Q, D, tys, w, A, nL, cells, slots⟩ := E
  obtain ⟨rfl, rfl, rfl, rfl, d, rfl, rfl⟩ := k
  obtain ⟨hx, hb, hml, hown, hts, hA, hlk⟩ := g
  intro H locs ls hK hP hD hS h
  refine va_iast hx hb hK hP hD hS 5 4 rfl rfl (vp_in_nI hj (by decide)) hd (fun H1 locs1 hP1 hD1 hS1 => ?_)
  rw [nI_clamp (by omega)] at hP1 hD1
  exact kk H1 locs1 ls hK hP1 hD1 hS1 h
theorem mo_ld5 (g : gOk E cc RX1) (k : cOk moC E l f n a) {i : Int32} {j : Nat} (hd : decode cc pc = .ok (.iaload, 1)) (hi : i = nI j) (hj : j < 6) (kk : gG E (pc + 1) lv (.int (u.2 5 j) :: st) u) : gG E pc lv (.int i :: .ref (a 5) :: st) u := by
  subst hi
  obtain ⟨p, l', e, R, s, m, args, below, meth, c, Q, D, tys, w, A, nL, cells, slots⟩ := E
  obtain ⟨rfl, rfl, rfl, rfl, d, rfl, rfl⟩ := k
  obtain ⟨hx, hb, hml, hown, hts, hA, hlk⟩ := g
  intro H locs ls hK hP hD hS h
  refine va_iald hx hb hK hP 6 5 rfl rfl (vp_in_nI hj (by decide)) hd ?_
  rw [nI_clamp (by omega)]
  exact kk H locs ls hK hP hD hS h
theorem mo_st5 (g : gOk E cc RX1) (k : cOk moC E l f n a) {i x : Int32} {j : Nat} (hd : decode cc pc = .ok (.iastore, 1)) (hi : i = nI j) (hj : j < 6) (kk : gG E (pc + 1) lv st (dF u 5 j x)) : gG E pc lv (.int x :: .int i :: .ref (a 5) :: st) u := by
  subst hi
  obtain ⟨p, l', e, R, s, m, args, below, meth, c, Q, D, tys, w, A, nL, cells, slots⟩ := E
  obtain ⟨rfl, rfl, rfl, rfl, d, rfl, rfl⟩ := k
  obtain ⟨hx, hb, hml, hown, hts, hA, hlk⟩ := g
  intro H locs ls hK hP hD hS h
  refine va_iast hx hb hK hP hD hS 6 5 rfl rfl (vp_in_nI hj (by decide)) hd (fun H1 locs1 hP1 hD1 hS1 => ?_)
  rw [nI_clamp (by omega)] at hP1 hD1
  exact kk H1 locs1 ls hK hP1 hD1 hS1 h
theorem mo_ld7 (g : gOk E cc RX1) (k : cOk moC E l f n a) {i : Int32} {j : Nat} (hd : decode cc pc = .ok (.iaload, 1)) (hi : i = nI j) (hj : j < 64) (kk : gG E (pc + 1) lv (.int (u.2 7 j) :: st) u) : gG E pc lv (.int i :: .ref (a 7) :: st) u := by
  subst hi
  obtain ⟨p, l', e, R, s, m, args, below, meth, c, Q, D, tys, w, A, nL, cells, slots⟩ := E
  obtain ⟨rfl, rfl, rfl, rfl, d, rfl, rfl⟩ := k
  obtain ⟨hx, hb, hml, hown, hts, hA, hlk⟩ := g
  intro H locs ls hK hP hD hS h
  refine va_iald hx hb hK hP 7 6 rfl rfl (vp_in_nI hj (by decide)) hd ?_
  rw [nI_clamp (by omega)]
  exact kk H locs ls hK hP hD hS h
theorem mo_st7 (g : gOk E cc RX1) (k : cOk moC E l f n a) {i x : Int32} {j : Nat} (hd : decode cc pc = .ok (.iastore, 1)) (hi : i = nI j) (hj : j < 64) (kk : gG E (pc + 1) lv st (dF u 7 j x)) : gG E pc lv (.int x :: .int i :: .ref (a 7) :: st) u := by
  subst hi
  obtain ⟨p, l', e, R, s, m, args, below, meth, c, Q, D, tys, w, A, nL, cells, slots⟩ := E
  obtain ⟨rfl, rfl, rfl, rfl, d, rfl, rfl⟩ := k
  obtain ⟨hx, hb, hml, hown, hts, hA, hlk⟩ := g
  intro H locs ls hK hP hD hS h
  refine va_iast hx hb hK hP hD hS 7 6 rfl rfl (vp_in_nI hj (by decide)) hd (fun H1 locs1 hP1 hD1 hS1 => ?_)
  rw [nI_clamp (by omega)] at hP1 hD1
  exact kk H1 locs1 ls hK hP1 hD1 hS1 h
theorem mo_ld8 (g : gOk E cc RX1) (k : cOk moC E l f n a) {i : Int32} {j : Nat} (hd : decode cc pc = .ok (.iaload, 1)) (hi : i = nI j) (hj : j < 6) (kk : gG E (pc + 1) lv (.int (u.2 8 j) :: st) u) : gG E pc lv (.int i :: .ref (a 8) :: st) u := by
  subst hi
  obtain ⟨p, l', e, R, s, m, args, below, meth, c, Q, D, tys, w, A, nL, cells, slots⟩ := E
  obtain ⟨rfl, rfl, rfl, rfl, d, rfl, rfl⟩ := k
  obtain ⟨hx, hb, hml, hown, hts, hA, hlk⟩ := g
  intro H locs ls hK hP hD hS h
  refine va_iald hx hb hK hP 8 7 rfl rfl (vp_in_nI hj (by decide)) hd ?_
  rw [nI_clamp (by omega)]
  exact kk H locs ls hK hP hD hS h
theorem mo_st8 (g : gOk E cc RX1) (k : cOk moC E l f n a) {i x : Int32} {j : Nat} (hd : decode cc pc = .ok (.iastore, 1)) (hi : i = nI j) (hj : j < 6) (kk : gG E (pc + 1) lv st (dF u 8 j x)) : gG E pc lv (.int x :: .int i :: .ref (a 8) :: st) u := by
  subst hi
  obtain ⟨p, l', e, R, s, m, args, below, meth, c, Q, D, tys, w, A, nL, cells, slots⟩ := E
  obtain ⟨rfl, rfl, rfl, rfl, d, rfl, rfl⟩ := k
  obtain ⟨hx, hb, hml, hown, hts, hA, hlk⟩ := g
  intro H locs ls hK hP hD hS h
  refine va_iast hx hb hK hP hD hS 8 7 rfl rfl (vp_in_nI hj (by decide)) hd (fun H1 locs1 hP1 hD1 hS1 => ?_)
  rw [nI_clamp (by omega)] at hP1 hD1
  exact kk H1 locs1 ls hK hP1 hD1 hS1 h
theorem mo_ld10 (g : gOk E cc RX1) (k : cOk moC E l f n a) {i : Int32} {j : Nat} (hd : decode cc pc = .ok (.iaload, 1)) (hi : i = nI j) (hj : j < 6) (kk : gG E (pc + 1) lv (.int (u.2 10 j) :: st) u) : gG E pc lv (.int i :: .ref (a 10) :: st) u := by
  subst hi
  obtain ⟨p, l', e, R, s, m, args, below, meth, c, Q, D, tys, w, A, nL, cells, slots⟩ := E
  obtain ⟨rfl, rfl, rfl, rfl, d, rfl, rfl⟩ := k
  obtain ⟨hx, hb, hml, hown, hts, hA, hlk⟩ := g
  intro H locs ls hK hP hD hS h
  refine va_iald hx hb hK hP 9 8 rfl rfl (vp_in_nI hj (by decide)) hd ?_
  rw [nI_clamp (by omega)]
  exact kk H locs ls hK hP hD hS h
theorem mo_st10 (g : gOk E cc RX1) (k : cOk moC E l f n a) {i x : Int32} {j : Nat} (hd : decode cc pc = .ok (.iastore, 1)) (hi : i = nI j) (hj : j < 6) (kk : gG E (pc + 1) lv st (dF u 10 j x)) : gG E pc lv (.int x :: .int i :: .ref (a 10) :: st) u := by
  subst hi
  obtain ⟨p, l', e, R, s, m, args, below, meth, c, Q, D, tys, w, A, nL, cells, slots⟩ := E
  obtain ⟨rfl, rfl, rfl, rfl, d, rfl, rfl⟩ := k
  obtain ⟨hx, hb, hml, hown, hts, hA, hlk⟩ := g
  intro H locs ls hK hP hD hS h
  refine va_iast hx hb hK hP hD hS 9 8 rfl rfl (vp_in_nI hj (by decide)) hd (fun H1 locs1 hP1 hD1 hS1 => ?_)
  rw [nI_clamp (by omega)] at hP1 hD1
  exact kk H1 locs1 ls hK hP1 hD1 hS1 h
theorem mo_ld11 (g : gOk E cc RX1) (k : cOk moC E l f n a) {i : Int32} {j : Nat} (hd : decode cc pc = .ok (.iaload, 1)) (hi : i = nI j) (hj : j < 6) (kk : gG E (pc + 1) lv (.int (u.2 11 j) :: st) u) : gG E pc lv (.int i :: .ref (a 11) :: st) u := by
  subst hi
  obtain ⟨p, l', e, R, s, m, args, below, meth, c, Q, D, tys, w, A, nL, cells, slots⟩ := E
  obtain ⟨rfl, rfl, rfl, rfl, d, rfl, rfl⟩ := k
  obtain ⟨hx, hb, hml, hown, hts, hA, hlk⟩ := g
  intro H locs ls hK hP hD hS h
  refine va_iald hx hb hK hP 10 9 rfl rfl (vp_in_nI hj (by decide)) hd ?_
  rw [nI_clamp (by omega)]
  exact kk H locs ls hK hP hD hS h
theorem mo_st11 (g : gOk E cc RX1) (k : cOk moC E l f n a) {i x : Int32} {j : Nat} (hd : decode cc pc = .ok (.iastore, 1)) (hi : i = nI j) (hj : j < 6) (kk : gG E (pc + 1) lv st (dF u 11 j x)) : gG E pc lv (.int x :: .int i :: .ref (a 11) :: st) u := by
  subst hi
  obtain ⟨p, l', e, R, s, m, args, below, meth, c, Q, D, tys, w, A, nL, cells, slots⟩ := E
  obtain ⟨rfl, rfl, rfl, rfl, d, rfl, rfl⟩ := k
  obtain ⟨hx, hb, hml, hown, hts, hA, hlk⟩ := g
  intro H locs ls hK hP hD hS h
  refine va_iast hx hb hK hP hD hS 10 9 rfl rfl (vp_in_nI hj (by decide)) hd (fun H1 locs1 hP1 hD1 hS1 => ?_)
  rw [nI_clamp (by omega)] at hP1 hD1
  exact kk H1 locs1 ls hK hP1 hD1 hS1 h
theorem mo_ld12 (g : gOk E cc RX1) (k : cOk moC E l f n a) {i : Int32} {j : Nat} (hd : decode cc pc = .ok (.iaload, 1)) (hi : i = nI j) (hj : j < 6) (kk : gG E (pc + 1) lv (.int (u.2 12 j) :: st) u) : gG E pc lv (.int i :: .ref (a 12) :: st) u := by
  subst hi
  obtain ⟨p, l', e, R, s, m, args, below, meth, c, Q, D, tys, w, A, nL, cells, slots⟩ := E
  obtain ⟨rfl, rfl, rfl, rfl, d, rfl, rfl⟩ := k
  obtain ⟨hx, hb, hml, hown, hts, hA, hlk⟩ := g
  intro H locs ls hK hP hD hS h
  refine va_iald hx hb hK hP 11 10 rfl rfl (vp_in_nI hj (by decide)) hd ?_
  rw [nI_clamp (by omega)]
  exact kk H locs ls hK hP hD hS h
theorem mo_st12 (g : gOk E cc RX1) (k : cOk moC E l f n a) {i x : Int32} {j : Nat} (hd : decode cc pc = .ok (.iastore, 1)) (hi : i = nI j) (hj : j < 6) (kk : gG E (pc + 1) lv st (dF u 12 j x)) : gG E pc lv (.int x :: .int i :: .ref (a 12) :: st) u := by
  subst hi
  obtain ⟨p, l', e, R, s, m, args, below, meth, c, Q, D, tys, w, A, nL, cells, slots⟩ := E
  obtain ⟨rfl, rfl, rfl, rfl, d, rfl, rfl⟩ := k
  obtain ⟨hx, hb, hml, hown, hts, hA, hlk⟩ := g
  intro H locs ls hK hP hD hS h
  refine va_iast hx hb hK hP hD hS 11 10 rfl rfl (vp_in_nI hj (by decide)) hd (fun H1 locs1 hP1 hD1 hS1 => ?_)
  rw [nI_clamp (by omega)] at hP1 hD1
  exact kk H1 locs1 ls hK hP1 hD1 hS1 h
theorem mo_call_form (g : gOk E cc RX1) (k : cOk moC E l f n a) {f' n' : Nat} {v1 : Value} {post : Int32 → dS → Prop} (hd : decode cc pc = .ok (.invokevirtual 60, 3)) (hM : gMi moC l yX1_form cX1_form 3 (some .boolean) (gR f' n') [v1] u post) (hR : f' + 1 ≤ f ∧ 8 + (3 + 11) + n' ≤ n) (hs : (st.map fun v => v.category).sum ≤ 8) (kk : ∀ (r : Int32) (u' : dS), post r u' → gG E (pc + 3) lv (.int r :: st) u') : gG E pc lv (v1 :: .ref (a 0) :: st) u := gcalli g k (mo_rec a u) (lw_V q273 q275 qs15 q32 q276) (na := 1) (by decide +kernel) rfl hM hR hd rfl hs kk
theorem mo_call_hold (g : gOk E cc RX1) (k : cOk moC E l f n a) {f' n' : Nat} {v1 v2 : Value} {post : dS → Prop} (hd : decode cc pc = .ok (.invokevirtual 64, 3)) (hM : gMv moC l yX1_hold cX1_hold 3 (gR f' n') [v1, v2] u post) (hR : f' + 1 ≤ f ∧ 8 + (3 + 11) + n' ≤ n) (hs : (st.map fun v => v.category).sum ≤ 8) (kk : ∀ (u' : dS), post u' → gG E (pc + 3) lv st u') : gG E pc lv (v2 :: v1 :: .ref (a 0) :: st) u := gcallv g k (mo_rec a u) (lw_V q277 q279 qs16 q32 q280) (na := 2) (by decide +kernel) rfl hM hR hd rfl hs kk
theorem mo_call_fits (g : gOk E cc RX1) (k : cOk moC E l f n a) {f' n' : Nat} {post : Int32 → dS → Prop} (hd : decode cc pc = .ok (.invokevirtual 68, 3)) (hM : gMi moC l yX1_fits cX1_fits 2 (some .boolean) (gR f' n') [] u post) (hR : f' + 1 ≤ f ∧ 8 + (2 + 11) + n' ≤ n) (hs : (st.map fun v => v.category).sum ≤ 8) (kk : ∀ (r : Int32) (u' : dS), post r u' → gG E (pc + 3) lv (.int r :: st) u') : gG E pc lv (.ref (a 0) :: st) u := gcalli g k (mo_rec a u) (lw_V q281 q283 qs17 q32 q284) (na := 0) (by decide +kernel) rfl hM hR hd rfl hs kk
theorem mo_call_measure (g : gOk E cc RX1) (k : cOk moC E l f n a) {f' n' : Nat} {v1 : Value} {post : dS → Prop} (hd : decode cc pc = .ok (.invokevirtual 52, 3)) (hM : gMv moC l yX1_measure cX1_measure 4 (gR f' n') [v1] u post) (hR : f' + 1 ≤ f ∧ 8 + (4 + 11) + n' ≤ n) (hs : (st.map fun v => v.category).sum ≤ 8) (kk : ∀ (u' : dS), post u' → gG E (pc + 3) lv st u') : gG E pc lv (v1 :: .ref (a 0) :: st) u := gcallv g k (mo_rec a u) (lw_V q285 q287 qs18 q32 q288) (na := 1) (by decide +kernel) rfl hM hR hd rfl hs kk
theorem mo_call_covers (g : gOk E cc RX1) (k : cOk moC E l f n a) {f' n' : Nat} {v1 v2 : Value} {post : Int32 → dS → Prop} (hd : decode cc pc = .ok (.invokevirtual 48, 3)) (hM : gMi moC l yX1_covers cX1_covers 5 (some .boolean) (gR f' n') [v1, v2] u post) (hR : f' + 1 ≤ f ∧ 8 + (5 + 11) + n' ≤ n) (hs : (st.map fun v => v.category).sum ≤ 8) (kk : ∀ (r : Int32) (u' : dS), post r u' → gG E (pc + 3) lv (.int r :: st) u') : gG E pc lv (v2 :: v1 :: .ref (a 0) :: st) u := gcalli g k (mo_rec a u) (lw_V q289 q291 qs19 q32 q292) (na := 2) (by decide +kernel) rfl hM hR hd rfl hs kk
theorem mo_call_can (g : gOk E cc RX1) (k : cOk moC E l f n a) {f' n' : Nat} {post : Int32 → dS → Prop} (hd : decode cc pc = .ok (.invokevirtual 56, 3)) (hM : gMi moC l yX1_can cX1_can 5 (some .boolean) (gR f' n') [] u post) (hR : f' + 1 ≤ f ∧ 8 + (5 + 11) + n' ≤ n) (hs : (st.map fun v => v.category).sum ≤ 8) (kk : ∀ (r : Int32) (u' : dS), post r u' → gG E (pc + 3) lv (.int r :: st) u') : gG E pc lv (.ref (a 0) :: st) u := gcalli g k (mo_rec a u) (lw_V q293 q295 qs20 q32 q296) (na := 0) (by decide +kernel) rfl hM hR hd rfl hs kk
theorem mo_call_is (g : gOk E cc RX1) (k : cOk moC E l f n a) {f' n' : Nat} {v1 : Value} {post : Int32 → dS → Prop} (hd : decode cc pc = .ok (.invokevirtual 71, 3)) (hM : gMi moC l yX1_is cX1_is 2 (some .boolean) (gR f' n') [v1] u post) (hR : f' + 1 ≤ f ∧ 8 + (2 + 11) + n' ≤ n) (hs : (st.map fun v => v.category).sum ≤ 8) (kk : ∀ (r : Int32) (u' : dS), post r u' → gG E (pc + 3) lv (.int r :: st) u') : gG E pc lv (v1 :: .ref (a 0) :: st) u := gcalli g k (mo_rec a u) (lw_V q301 q303 qs21 q32 q304) (na := 1) (by decide +kernel) rfl hM hR hd rfl hs kk
theorem mo_call_tryAll (g : gOk E cc RX1) (k : cOk moC E l f n a) {f' n' : Nat} {post : Int32 → dS → Prop} (hd : decode cc pc = .ok (.invokevirtual 98, 3)) (hM : gMi moC l yX1_tryAll cX1_tryAll 5 (some .int) (gR f' n') [] u post) (hR : f' + 1 ≤ f ∧ 8 + (5 + 11) + n' ≤ n) (hs : (st.map fun v => v.category).sum ≤ 8) (kk : ∀ (r : Int32) (u' : dS), post r u' → gG E (pc + 3) lv (.int r :: st) u') : gG E pc lv (.ref (a 0) :: st) u := gcalli g k (mo_rec a u) (lw_V q325 q327 qs22 q32 q328) (na := 0) (by decide +kernel) rfl hM hR hd rfl hs kk
theorem mo_call_sort (g : gOk E cc RX1) (k : cOk moC E l f n a) {f' n' : Nat} {post : dS → Prop} (hd : decode cc pc = .ok (.invokevirtual 80, 3)) (hM : gMv moC l yX1_sort cX1_sort 4 (gR f' n') [] u post) (hR : f' + 1 ≤ f ∧ 8 + (4 + 11) + n' ≤ n) (hs : (st.map fun v => v.category).sum ≤ 8) (kk : ∀ (u' : dS), post u' → gG E (pc + 3) lv st u') : gG E pc lv (.ref (a 0) :: st) u := gcallv g k (mo_rec a u) (lw_V q329 q331 qs23 q32 q332) (na := 0) (by decide +kernel) rfl hM hR hd rfl hs kk
theorem mo_call_before (g : gOk E cc RX1) (k : cOk moC E l f n a) {f' n' : Nat} {v1 v2 : Value} {post : Int32 → dS → Prop} (hd : decode cc pc = .ok (.invokevirtual 77, 3)) (hM : gMi moC l yX1_before cX1_before 3 (some .boolean) (gR f' n') [v1, v2] u post) (hR : f' + 1 ≤ f ∧ 8 + (3 + 11) + n' ≤ n) (hs : (st.map fun v => v.category).sum ≤ 8) (kk : ∀ (r : Int32) (u' : dS), post r u' → gG E (pc + 3) lv (.int r :: st) u') : gG E pc lv (v2 :: v1 :: .ref (a 0) :: st) u := gcalli g k (mo_rec a u) (lw_V q333 q335 qs24 q32 q336) (na := 2) (by decide +kernel) rfl hM hR hd rfl hs kk
theorem mo_call_lost (g : gOk E cc RX1) (k : cOk moC E l f n a) {f' n' : Nat} {post : Int32 → dS → Prop} (hd : decode cc pc = .ok (.invokevirtual 85, 3)) (hM : gMi moC l yX1_lost cX1_lost 3 (some .int) (gR f' n') [] u post) (hR : f' + 1 ≤ f ∧ 8 + (3 + 11) + n' ≤ n) (hs : (st.map fun v => v.category).sum ≤ 8) (kk : ∀ (r : Int32) (u' : dS), post r u' → gG E (pc + 3) lv (.int r :: st) u') : gG E pc lv (.ref (a 0) :: st) u := gcalli g k (mo_rec a u) (lw_V q339 q341 qs25 q32 q342) (na := 0) (by decide +kernel) rfl hM hR hd rfl hs kk
theorem mo_call_possible (g : gOk E cc RX1) (k : cOk moC E l f n a) {f' n' : Nat} {post : Int32 → dS → Prop} (hd : decode cc pc = .ok (.invokevirtual 89, 3)) (hM : gMi moC l yX1_possible cX1_possible 2 (some .boolean) (gR f' n') [] u post) (hR : f' + 1 ≤ f ∧ 8 + (2 + 11) + n' ≤ n) (hs : (st.map fun v => v.category).sum ≤ 8) (kk : ∀ (r : Int32) (u' : dS), post r u' → gG E (pc + 3) lv (.int r :: st) u') : gG E pc lv (.ref (a 0) :: st) u := gcalli g k (mo_rec a u) (lw_V q343 q345 qs26 q32 q346) (na := 0) (by decide +kernel) rfl hM hR hd rfl hs kk
theorem mo_call_keepBest (g : gOk E cc RX1) (k : cOk moC E l f n a) {f' n' : Nat} {post : dS → Prop} (hd : decode cc pc = .ok (.invokevirtual 92, 3)) (hM : gMv moC l yX1_keepBest cX1_keepBest 2 (gR f' n') [] u post) (hR : f' + 1 ≤ f ∧ 8 + (2 + 11) + n' ≤ n) (hs : (st.map fun v => v.category).sum ≤ 8) (kk : ∀ (u' : dS), post u' → gG E (pc + 3) lv st u') : gG E pc lv (.ref (a 0) :: st) u := gcallv g k (mo_rec a u) (lw_V q347 q349 qs27 q32 q350) (na := 0) (by decide +kernel) rfl hM hR hd rfl hs kk
theorem mo_call_next (g : gOk E cc RX1) (k : cOk moC E l f n a) {f' n' : Nat} {post : Int32 → dS → Prop} (hd : decode cc pc = .ok (.invokevirtual 95, 3)) (hM : gMi moC l yX1_next cX1_next 3 (some .boolean) (gR f' n') [] u post) (hR : f' + 1 ≤ f ∧ 8 + (3 + 11) + n' ≤ n) (hs : (st.map fun v => v.category).sum ≤ 8) (kk : ∀ (r : Int32) (u' : dS), post r u' → gG E (pc + 3) lv (.int r :: st) u') : gG E pc lv (.ref (a 0) :: st) u := gcalli g k (mo_rec a u) (lw_V q351 q353 qs28 q32 q354) (na := 0) (by decide +kernel) rfl hM hR hd rfl hs kk
theorem mo_call_give (g : gOk E cc RX1) (k : cOk moC E l f n a) {f' n' : Nat} {v1 : Value} {post : Int32 → dS → Prop} (hd : decode cc pc = .ok (.invokevirtual 101, 3)) (hM : gMi moC l yX1_give cX1_give 3 (some .int) (gR f' n') [v1] u post) (hR : f' + 1 ≤ f ∧ 8 + (3 + 11) + n' ≤ n) (hs : (st.map fun v => v.category).sum ≤ 8) (kk : ∀ (r : Int32) (u' : dS), post r u' → gG E (pc + 3) lv (.int r :: st) u') : gG E pc lv (v1 :: .ref (a 0) :: st) u := gcalli g k (mo_rec a u) (lw_V q363 q365 qs29 q32 q366) (na := 1) (by decide +kernel) rfl hM hR hd rfl hs kk
theorem mo_call_block (g : gOk E cc RX1) (k : cOk moC E l f n a) {f' n' : Nat} {v1 v2 : Value} {post : Int32 → dS → Prop} (hd : decode cc pc = .ok (.invokevirtual 105, 3)) (hM : gMi moC l yX1_block cX1_block 4 (some .int) (gR f' n') [v1, v2] u post) (hR : f' + 1 ≤ f ∧ 8 + (4 + 11) + n' ≤ n) (hs : (st.map fun v => v.category).sum ≤ 8) (kk : ∀ (r : Int32) (u' : dS), post r u' → gG E (pc + 3) lv (.int r :: st) u') : gG E pc lv (v2 :: v1 :: .ref (a 0) :: st) u := gcalli g k (mo_rec a u) (lw_V q379 q306 q307 q32 q308) (na := 2) (by decide +kernel) rfl hM hR hd rfl hs kk
end
end
section
/-! Int32 by its bits (the first family of kit/laws/BITS.to-paste, a starting text), and what this claim needs of it -/
def bt (x : Int32) (i : Nat) : Bool := x.toBitVec.getLsbD i
theorem b_ext {x y : Int32} (h : ∀ i, i < 32 → bt x i = bt y i) : x = y := Int32.toBitVec_inj.mp (BitVec.eq_of_getLsbD_eq (fun i hi => h i hi))
theorem b_or (x y : Int32) (i : Nat) : bt (x ||| y) i = (bt x i || bt y i) := by unfold bt; rw [Int32.toBitVec_or, BitVec.getLsbD_or]
theorem b_and (x y : Int32) (i : Nat) : bt (x &&& y) i = (bt x i && bt y i) := by unfold bt; rw [Int32.toBitVec_and, BitVec.getLsbD_and]
theorem b_xor (x y : Int32) (i : Nat) : bt (x ^^^ y) i = (bt x i ^^ bt y i) := by unfold bt; rw [Int32.toBitVec_xor, BitVec.getLsbD_xor]
theorem b_big {x : Int32} {i : Nat} (h : 32 ≤ i) : bt x i = false := BitVec.getLsbD_of_ge _ _ h
theorem b_m1 : ∀ i, i < 32 → bt (-1) i = true := by decide +kernel
theorem b_0 (i : Nat) : bt 0 i = false := BitVec.getLsbD_zero
theorem s_l : ∀ n, n < 32 → ((nI n &&& 31).toBitVec.smod 32).toNat = n := by decide +kernel
theorem b_sshr (n : Nat) (hn : n < 32) (x : Int32) {i : Nat} (hi : i < 32) : bt (x >>> (nI n &&& 31)) i = if n + i < 32 then bt x (n + i) else bt x 31 := by
  unfold bt
  rw [Int32.toBitVec_shiftRight]
  show (x.toBitVec.sshiftRight ((nI n &&& 31).toBitVec.smod 32).toNat).getLsbD i = _
  rw [s_l n hn, BitVec.getLsbD_sshiftRight, BitVec.msb_eq_getLsbD_last]
  simp [hi]
/-- a truth value as an int -/
def bI (b : Bool) : Int32 := if b = true then 1 else 0
theorem bI_01 (b : Bool) : bI b = 0 ∨ bI b = 1 := by cases b <;> simp [bI]
theorem bI_0 {b : Bool} : bI b = 0 ↔ b = false := by cases b <;> simp [bI]
theorem bI_n (b : Bool) : bI b = nI b.toNat := by cases b <;> rfl
theorem b_1 : ∀ i, i < 32 → bt 1 i = decide (i = 0) := by decide +kernel
theorem b_get {x : Int32} {t : Nat} (ht : t < 32) : (x >>> (nI t &&& 31)) &&& 1 = bI (bt x t) := by
  apply b_ext
  intro i hi
  rw [b_and, b_sshr t ht x hi, b_1 i hi]
  by_cases h : i = 0
  · subst h
    rw [if_pos (by omega), Nat.add_zero]
    cases bt x t <;> rfl
  · rw [decide_eq_false h, Bool.and_false]
    cases bt x t
    · exact (b_0 i).symm
    · show false = bt 1 i
      rw [b_1 i hi, decide_eq_false h]
theorem b_one : ∀ t, t < 32 → ∀ i, i < 32 → bt ((1 : Int32) <<< (nI t &&& 31)) i = decide (i = t) := by decide +kernel
theorem b_set {x : Int32} {t i : Nat} (ht : t < 32) (hi : i < 32) : bt (x ||| ((1 : Int32) <<< (nI t &&& 31))) i = (bt x i || decide (i = t)) := by
  rw [b_or, b_one t ht i hi]
theorem b_clr {x : Int32} {t i : Nat} (ht : t < 32) (hi : i < 32) : bt (x &&& (((1 : Int32) <<< (nI t &&& 31)) ^^^ (-1))) i = (bt x i && !decide (i = t)) := by
  rw [b_and, b_xor, b_one t ht i hi, b_m1 i hi, Bool.xor_true]
theorem b_not {x : Int32} {i : Nat} (hi : i < 32) : bt (x ^^^ (-1)) i = !bt x i := by
  rw [b_xor, b_m1 i hi, Bool.xor_true]
theorem b_low : ∀ t, t < 25 → ∀ i, i < 32 → bt (((1 : Int32) <<< (nI t &&& 31)) - 1) i = decide (i < t) := by decide +kernel
/-- bytes -/
theorem n_b2 : ∀ k, k < 128 → (nI k).toInt8.toInt32 = nI k := by decide +kernel
theorem n_nb : ∀ k, k < 128 → vp_nar .byte (nI k) = nI k := by decide +kernel
theorem n_nm : vp_nar .byte (-1) = -1 := by decide +kernel
theorem n_nz (b : Bool) : vp_nar .boolean (bI b) = bI b := by cases b <;> rfl
theorem n_m1 : ((-1) : Int32).toInt8.toInt32 = -1 := by decide +kernel
theorem n_neg {k : Nat} (h : k < 2 ^ 31) : ¬ nI k = -1 := by
  intro q
  have := nI_toInt h
  rw [q] at this
  have e : ((-1) : Int32).toInt = -1 := by decide +kernel
  omega
theorem n_lt0 {k : Nat} (h : k < 2 ^ 31) : nI k < 0 ↔ False := ⟨fun q => nI_pos h q, fun q => q.elim⟩
theorem n_m1lt : ((-1) : Int32) < 0 ↔ True := by decide +kernel
theorem n_lt0' {k : Nat} (h : k < 2 ^ 31) : 0 ≤ nI k ↔ True := ⟨fun _ => trivial, fun _ => nI_pos' h⟩
theorem n_gt0 {k : Nat} (h : k < 2 ^ 31) : 0 < nI k ↔ 0 < k := by
  rw [Int32.lt_iff_toInt_lt, nI_toInt h, Int32.toInt_zero]; omega
theorem n_le0 {k : Nat} (h : k < 2 ^ 31) : nI k ≤ 0 ↔ k = 0 := by
  rw [Int32.le_iff_toInt_le, nI_toInt h, Int32.toInt_zero]; omega
theorem n_eq0 {k : Nat} (h : k < 2 ^ 31) : nI k = 0 ↔ k = 0 := by
  rw [← nI_0, nI_eq h (by omega)]
/-- an int in a range of naturals, or not -/
theorem n_in (x : Int32) (n : Nat) (hn : n < 2 ^ 31) : (x < 0 ∨ nI n ≤ x) ∨ ∃ j, j < n ∧ x = nI j := by
  rcases pk_ix x hn with h | h | h
  · exact Or.inl (Or.inl h)
  · exact Or.inl (Or.inr h)
  · exact Or.inr h
end
section
/-! plain laws: sums, sets of tasks, Hall's condition, tight sets -/
def zs (f : Nat → Nat) : Nat → Nat
  | 0 => 0
  | n + 1 => zs f n + f n
theorem zs_congr {f g : Nat → Nat} {n : Nat} (h : ∀ i, i < n → f i = g i) : zs f n = zs g n := by
  induction n with
  | zero => rfl
  | succ n ih =>
    simp only [zs]
    rw [ih (fun i hi => h i (by omega)), h n (by omega)]
theorem zs_le {f g : Nat → Nat} {n : Nat} (h : ∀ i, i < n → f i ≤ g i) : zs f n ≤ zs g n := by
  induction n with
  | zero => exact Nat.le_refl _
  | succ n ih =>
    have h1 := ih (fun i hi => h i (by omega))
    have h2 := h n (by omega)
    simp only [zs]
    omega
theorem zs_add (f g : Nat → Nat) (n : Nat) : zs (fun i => f i + g i) n = zs f n + zs g n := by
  induction n with
  | zero => rfl
  | succ n ih =>
    simp only [zs]
    omega
theorem zs_zero {f : Nat → Nat} {n : Nat} (h : ∀ i, i < n → f i = 0) : zs f n = 0 := by
  induction n with
  | zero => rfl
  | succ n ih =>
    simp only [zs]
    rw [ih (fun i hi => h i (by omega)), h n (by omega)]
theorem zs_one (j d n : Nat) : zs (fun i => if i = j then d else 0) n = if j < n then d else 0 := by
  induction n with
  | zero => rfl
  | succ n ih =>
    simp only [zs]
    rw [ih]
    by_cases h1 : j < n
    · rw [if_pos h1, if_neg (by omega), if_pos (by omega), Nat.add_zero]
    · by_cases h2 : n = j
      · rw [if_neg h1, if_pos h2, if_pos (by omega), Nat.zero_add]
      · rw [if_neg h1, if_neg h2, if_neg (by omega)]
theorem zs_upd {f : Nat → Nat} {j d n : Nat} (hj : j < n) : zs (fun i => if i = j then f i + d else f i) n = zs f n + d := by
  have e : zs (fun i => if i = j then f i + d else f i) n = zs (fun i => f i + (if i = j then d else 0)) n := zs_congr (fun i _ => by split <;> omega)
  rw [e, zs_add, zs_one, if_pos hj]
theorem zs_swap (f : Nat → Nat → Nat) (n m : Nat) : zs (fun i => zs (f i) m) n = zs (fun t => zs (fun i => f i t) n) m := by
  induction n with
  | zero => exact (zs_zero (fun _ _ => rfl)).symm
  | succ n ih =>
    show zs (fun i => zs (f i) m) n + zs (f n) m = zs (fun t => zs (fun i => f i t) n + f n t) m
    rw [ih, zs_add]
theorem zs_bound {f : Nat → Nat} {n b : Nat} (h : ∀ i, i < n → f i ≤ b) : zs f n ≤ n * b := by
  induction n with
  | zero => exact Nat.zero_le _
  | succ n ih =>
    have h1 := ih (fun i hi => h i (by omega))
    have h2 := h n (by omega)
    simp only [zs]
    rw [Nat.succ_mul]
    omega
theorem zs_get {f : Nat → Nat} {n i : Nat} (h : i < n) : f i ≤ zs f n := by
  induction n with
  | zero => omega
  | succ n ih =>
    simp only [zs]
    by_cases hi : i = n
    · subst hi; omega
    · have := ih (by omega); omega
/-- the unit t is covered by a task of the set S -/
def zcov (e : Nat → Nat → Bool) (S : Nat → Bool) (t : Nat) : Bool := (List.range 6).any (fun j => S j && e j t)
theorem zcov_iff {e : Nat → Nat → Bool} {S : Nat → Bool} {t : Nat} : zcov e S t = true ↔ ∃ j, j < 6 ∧ S j = true ∧ e j t = true := by
  unfold zcov
  rw [List.any_eq_true]
  constructor
  · rintro ⟨j, h1, h2⟩
    rw [Bool.and_eq_true] at h2
    exact ⟨j, List.mem_range.mp h1, h2.1, h2.2⟩
  · rintro ⟨j, h1, h2, h3⟩
    exact ⟨j, List.mem_range.mpr h1, by rw [h2, h3]; rfl⟩
def zcn (e : Nat → Nat → Bool) (S : Nat → Bool) : Nat := zs (fun t => (zcov e S t).toNat) 24
def zw (w : Nat → Nat) (S : Nat → Bool) : Nat := zs (fun j => if S j = true then w j else 0) 6
def zhall (e : Nat → Nat → Bool) (w : Nat → Nat) : Prop := ∀ S : Nat → Bool, zw w S ≤ zcn e S
theorem ztn {a b : Bool} (h : a = true → b = true) : a.toNat ≤ b.toNat := by
  cases a
  · exact Nat.zero_le _
  · rw [h rfl]; exact Nat.le_refl _
theorem zcn_mono {e e' : Nat → Nat → Bool} {S S' : Nat → Bool} (he : ∀ j, j < 6 → ∀ t, t < 24 → S j = true → e j t = true → S' j = true ∧ e' j t = true) : zcn e S ≤ zcn e' S' := by
  refine zs_le (fun t ht => ztn (fun h => ?_))
  obtain ⟨j, h1, h2, h3⟩ := zcov_iff.mp h
  exact zcov_iff.mpr ⟨j, h1, he j h1 t ht h2 h3⟩
theorem zw_mono {w w' : Nat → Nat} {S S' : Nat → Bool} (h : ∀ j, j < 6 → S j = true → S' j = true ∧ w j ≤ w' j) : zw w S ≤ zw w' S' := by
  refine zs_le (fun j hj => ?_)
  by_cases hs : S j = true
  · obtain ⟨h1, h2⟩ := h j hj hs
    rw [if_pos hs, if_pos h1]; exact h2
  · rw [if_neg hs]; exact Nat.zero_le _
theorem zhall_mono {e : Nat → Nat → Bool} {w w' : Nat → Nat} (hw : ∀ j, j < 6 → w' j ≤ w j) (h : zhall e w) : zhall e w' := fun S => Nat.le_trans (zw_mono (fun j hj hs => ⟨hs, hw j hj⟩)) (h S)
theorem zhall_edge {e e' : Nat → Nat → Bool} {w : Nat → Nat} (he : ∀ j, j < 6 → ∀ t, t < 24 → 0 < w j → e j t = true → e' j t = true) (h : zhall e w) : zhall e' w := by
  intro S
  have h1 := h (fun j => S j && decide (0 < w j))
  have h2 : zw w S ≤ zw w (fun j => S j && decide (0 < w j)) := by
    refine zs_le (fun j hj => ?_)
    by_cases hs : S j = true
    · rw [if_pos hs]
      by_cases h0 : 0 < w j
      · rw [if_pos (show (S j && decide (0 < w j)) = true by rw [hs, decide_eq_true h0]; rfl)]; exact Nat.le_refl _
      · omega
    · rw [if_neg hs]; exact Nat.zero_le _
  have h3 : zcn e (fun j => S j && decide (0 < w j)) ≤ zcn e' S := by
    refine zcn_mono (fun j hj t ht hs hjt => ?_)
    rw [Bool.and_eq_true] at hs
    exact ⟨hs.1, he j hj t ht (of_decide_eq_true hs.2) hjt⟩
  omega
def zadd (w : Nat → Nat) (j d : Nat) : Nat → Nat := fun i => if i = j then w i + d else w i
theorem zadd_ge (w : Nat → Nat) (j d i : Nat) : w i ≤ zadd w j d i := by unfold zadd; split <;> omega
theorem zw_add {w : Nat → Nat} {S : Nat → Bool} {j d : Nat} (hj : j < 6) (hs : S j = true) : zw (zadd w j d) S = zw w S + d := by
  unfold zw
  rw [← zs_upd (d := d) hj]
  refine zs_congr (fun i _ => ?_)
  by_cases hi : i = j
  · subst hi; simp [zadd, hs]
  · simp [zadd, hi]
theorem zw_addn {w : Nat → Nat} {S : Nat → Bool} {j d : Nat} (hs : S j = false) : zw (zadd w j d) S = zw w S := by
  refine zs_congr (fun i _ => ?_)
  by_cases hi : i = j
  · subst hi; simp [hs]
  · simp [zadd, hi]
/-! owners: o t is the task that has the unit t; 6 and more: nobody -/
def zval (e : Nat → Nat → Bool) (o : Nat → Nat) : Prop := ∀ t, t < 24 → o t < 6 → e (o t) t = true
def zct (o : Nat → Nat) (j : Nat) : Nat := zs (fun t => if o t = j then 1 else 0) 24
theorem zw_ct (o : Nat → Nat) (S : Nat → Bool) : zw (zct o) S = zs (fun t => if o t < 6 ∧ S (o t) = true then 1 else 0) 24 := by
  have e1 : zw (zct o) S = zs (fun j => zs (fun t => if S j = true ∧ o t = j then 1 else 0) 24) 6 := by
    refine zs_congr (fun j _ => ?_)
    by_cases hs : S j = true
    · rw [if_pos hs]
      exact zs_congr (fun t _ => by simp [hs])
    · rw [if_neg hs]
      exact (zs_zero (fun t _ => by simp [hs])).symm
  rw [e1, zs_swap]
  refine zs_congr (fun t _ => ?_)
  have e2 : zs (fun i => if S i = true ∧ o t = i then 1 else 0) 6 = zs (fun i => if i = o t then (if S (o t) = true then 1 else 0) else 0) 6 := by
    refine zs_congr (fun i _ => ?_)
    by_cases hi : i = o t
    · subst hi; simp
    · have : ¬ o t = i := fun q => hi q.symm
      simp [hi, this]
  rw [e2, zs_one]
  by_cases h1 : o t < 6
  · by_cases h2 : S (o t) = true
    · simp [h1, h2]
    · simp [h1, h2]
  · simp [h1]
theorem zhall_val {e : Nat → Nat → Bool} {o : Nat → Nat} (h : zval e o) : zhall e (zct o) := by
  intro S
  rw [zw_ct]
  refine zs_le (fun t ht => ?_)
  by_cases hc : o t < 6 ∧ S (o t) = true
  · rw [if_pos hc, zcov_iff.mpr ⟨o t, hc.1, hc.2, h t ht hc.1⟩]; exact Nat.le_refl _
  · rw [if_neg hc]; exact Nat.zero_le _
theorem znot_hall {e : Nat → Nat → Bool} {o : Nat → Nat} {j : Nat} {R : Nat → Bool} (hj : j < 6) (hR : R j = true) (hc : ∀ i, i < 6 → R i = true → ∀ t, t < 24 → e i t = true → o t < 6 ∧ R (o t) = true) : ¬ zhall e (zadd (zct o) j 1) := by
  intro h
  have h1 := h R
  rw [zw_add hj hR, zw_ct] at h1
  have h2 : zcn e R ≤ zs (fun t => if o t < 6 ∧ R (o t) = true then 1 else 0) 24 := by
    refine zs_le (fun t ht => ?_)
    by_cases hv : zcov e R t = true
    · obtain ⟨i, a1, a2, a3⟩ := zcov_iff.mp hv
      rw [hv, if_pos (hc i a1 a2 t ht a3)]; exact Nat.le_refl _
    · rw [Bool.not_eq_true] at hv
      rw [hv]; exact Nat.zero_le _
  omega
/-- a unit changes hands -/
theorem zct_set {o : Nat → Nat} {t j i : Nat} (ht : t < 24) (hj : o t ≠ j) : zct (fun q => if q = t then j else o q) i + (if o t = i then 1 else 0) = zct o i + (if j = i then 1 else 0) := by
  unfold zct
  have e : zs (fun q => if q = t then (if o q = i then 1 else 0) + (if j = i then 1 else 0) else (if o q = i then 1 else 0)) 24 = zs (fun q => if o q = i then 1 else 0) 24 + (if j = i then 1 else 0) := zs_upd ht
  rw [← e]
  have e2 := zs_upd (f := fun q => if (if q = t then j else o q) = i then 1 else 0) (d := if o t = i then 1 else 0) ht
  rw [← e2]
  refine zs_congr (fun q _ => ?_)
  by_cases hq : q = t
  · subst hq
    simp only [if_true]
    omega
  · simp [hq]
/-! tight sets -/
def ztight (e : Nat → Nat → Bool) (w : Nat → Nat) (S : Nat → Bool) : Prop := zw w S = zcn e S
theorem zsub_w (w : Nat → Nat) (S T : Nat → Bool) : zw w (fun j => S j || T j) + zw w (fun j => S j && T j) = zw w S + zw w T := by
  unfold zw
  rw [← zs_add, ← zs_add]
  refine zs_congr (fun j _ => ?_)
  show (if (S j || T j) = true then w j else 0) + (if (S j && T j) = true then w j else 0) = (if S j = true then w j else 0) + (if T j = true then w j else 0)
  cases S j <;> cases T j <;> simp
theorem zsub_c (e : Nat → Nat → Bool) (S T : Nat → Bool) : zcn e (fun j => S j || T j) + zcn e (fun j => S j && T j) ≤ zcn e S + zcn e T := by
  unfold zcn
  rw [← zs_add, ← zs_add]
  refine zs_le (fun t _ => ?_)
  have h1 : zcov e (fun j => S j || T j) t = true → zcov e S t = true ∨ zcov e T t = true := by
    intro h
    obtain ⟨j, a, b, c⟩ := zcov_iff.mp h
    rw [Bool.or_eq_true] at b
    rcases b with b | b
    · exact Or.inl (zcov_iff.mpr ⟨j, a, b, c⟩)
    · exact Or.inr (zcov_iff.mpr ⟨j, a, b, c⟩)
  have h2 : zcov e (fun j => S j && T j) t = true → zcov e S t = true ∧ zcov e T t = true := by
    intro h
    obtain ⟨j, a, b, c⟩ := zcov_iff.mp h
    rw [Bool.and_eq_true] at b
    exact ⟨zcov_iff.mpr ⟨j, a, b.1, c⟩, zcov_iff.mpr ⟨j, a, b.2, c⟩⟩
  generalize zcov e (fun j => S j || T j) t = x at h1 ⊢
  generalize zcov e (fun j => S j && T j) t = y at h2 ⊢
  generalize zcov e S t = p at h1 h2 ⊢
  generalize zcov e T t = q at h1 h2 ⊢
  cases x <;> cases y <;> cases p <;> cases q <;> simp_all
theorem ztight_or {e : Nat → Nat → Bool} {w : Nat → Nat} {S T : Nat → Bool} (h : zhall e w) (hS : ztight e w S) (hT : ztight e w T) : ztight e w (fun j => S j || T j) := by
  have a := zsub_w w S T
  have b := zsub_c e S T
  have c := h (fun j => S j || T j)
  have d := h (fun j => S j && T j)
  unfold ztight at *
  omega
theorem ztight_union {e : Nat → Nat → Bool} {w : Nat → Nat} (h : zhall e w) (Q : Nat → (Nat → Bool) → Prop) (hm : ∀ k S T, (∀ j, S j = true → T j = true) → Q k S → Q k T) : ∀ n, (∀ k, k < n → ∃ S, ztight e w S ∧ Q k S) → ∃ T, ztight e w T ∧ ∀ k, k < n → Q k T := by
  intro n
  induction n with
  | zero =>
    intro _
    refine ⟨fun _ => false, ?_, fun k hk => absurd hk (by omega)⟩
    unfold ztight
    have a := h (fun _ => false)
    have b : zcn e (fun _ => false) = 0 := by
      refine zs_zero (fun t _ => ?_)
      cases hv : zcov e (fun _ => false) t
      · rfl
      · obtain ⟨j, _, b, _⟩ := zcov_iff.mp hv
        cases b
    omega
  | succ n ih =>
    intro hq
    obtain ⟨T, t1, t2⟩ := ih (fun k hk => hq k (by omega))
    obtain ⟨S, s1, s2⟩ := hq n (by omega)
    refine ⟨fun j => T j || S j, ztight_or h t1 s1, fun k hk => ?_⟩
    by_cases hkn : k = n
    · subst hkn
      exact hm k S _ (fun j hj => by simp [hj]) s2
    · exact hm k T _ (fun j hj => by simp [hj]) (t2 k (by omega))
/-- what can't be added stands in a tight set -/
theorem ztight_of {e : Nat → Nat → Bool} {w v : Nat → Nat} {j : Nat} (h : zhall e v) (hw : ∀ i, i < 6 → w i ≤ v i) (hn : ¬ zhall e (zadd w j 1)) (hj : j < 6) : ∃ S, ztight e v S ∧ S j = true := by
  have hn2 : ∃ S, ¬ zw (zadd w j 1) S ≤ zcn e S := Classical.byContradiction (fun q => hn (fun S => Classical.byContradiction (fun z => q ⟨S, z⟩)))
  obtain ⟨S, hS⟩ := hn2
  have hv := h S
  have hwv : zw w S ≤ zw v S := zw_mono (fun i hi hs => ⟨hs, hw i hi⟩)
  cases hs : S j with
  | false => rw [zw_addn hs] at hS; omega
  | true =>
    rw [zw_add hj hs] at hS
    exact ⟨S, by unfold ztight; omega, hs⟩
end
section
/-! frames of pictures; the tasks' state; what the pictures say of it -/
theorem cat0 : ∀ v ∈ ([] : List Value), v.category = 1 := fun _ h => absurd h List.not_mem_nil
theorem cat1 {x : Int32} : ∀ v ∈ ([.int x] : List Value), v.category = 1 := fun v h => by
  rw [List.mem_singleton.mp h]; rfl
theorem cat2 {x y : Int32} : ∀ v ∈ ([.int x, .int y] : List Value), v.category = 1 := fun v h => by
  rcases List.mem_cons.mp h with q | q
  · rw [q]; rfl
  · exact cat1 v q
theorem cat3 {x y z : Int32} : ∀ v ∈ ([.int x, .int y, .int z] : List Value), v.category = 1 := fun v h => by
  rcases List.mem_cons.mp h with q | q
  · rw [q]; rfl
  · exact cat2 v q
theorem n_inc (a : Nat) : nI a + Int32.ofInt 1 = nI (a + 1) := nI_1 a
theorem zdown {P : Nat → Prop} (N : Nat) (h : ∀ i, i ≤ N → (i < N → P (i + 1)) → P i) : ∀ i, i ≤ N → P i := by
  have key : ∀ n i, i + n = N → P i := by
    intro n
    induction n with
    | zero => intro i hi; exact h i (by omega) (fun q => absurd q (by omega))
    | succ n ih => intro i hi; exact h i (by omega) (fun _ => ih (i + 1) (by omega))
  exact fun i hi => key (N - i) i (by omega)
def dFr (js ks : List Nat) (u u' : dS) : Prop := (∀ k, k ∉ js → u'.1 k = u.1 k) ∧ ∀ k, k ∉ ks → u'.2 k = u.2 k
theorem dFr.rf {js ks : List Nat} {u : dS} : dFr js ks u u := ⟨fun _ _ => rfl, fun _ _ => rfl⟩
theorem dFr.tr {js ks : List Nat} {u v w : dS} (h1 : dFr js ks u v) (h2 : dFr js ks v w) : dFr js ks u w := ⟨fun k hk => (h2.1 k hk).trans (h1.1 k hk), fun k hk => (h2.2 k hk).trans (h1.2 k hk)⟩
theorem dFr.up {js ks js' ks' : List Nat} {u v : dS} (h : dFr js ks u v) (h1 : ∀ k ∈ js, k ∈ js') (h2 : ∀ k ∈ ks, k ∈ ks') : dFr js' ks' u v := ⟨fun k hk => h.1 k (fun q => hk (h1 k q)), fun k hk => h.2 k (fun q => hk (h2 k q))⟩
theorem dFr.i {js ks : List Nat} {u v : dS} {k : Nat} {x : Int32} (h : dFr js ks u v) (hk : k ∈ js) : dFr js ks u (dI v k x) := ⟨fun q hq => by
  have hne : ¬ q = k := fun e => hq (e ▸ hk)
  rw [dI_1, if_neg hne]; exact h.1 q hq, fun q hq => by rw [dI_2]; exact h.2 q hq⟩
theorem dFr.f {js ks : List Nat} {u v : dS} {k i : Nat} {x : Int32} (h : dFr js ks u v) (hk : k ∈ ks) : dFr js ks u (dF v k i x) := ⟨fun q hq => by rw [dF_1]; exact h.1 q hq, fun q hq => by
  have hne : q ≠ k := fun e => hq (e ▸ hk)
  rw [dF_n _ _ _ _ _ hne]; exact h.2 q hq⟩
/-- the tasks: present, (1 from, 2 until, 3 must, 4 may, 5 worth), blocked units -/
abbrev zT : Type := (Nat → Bool) × (Nat → Nat → Nat) × Int32
def zOk (σ : zT) : Prop := ∀ j, j < 6 → σ.2.1 1 j ≤ 24 ∧ σ.2.1 2 j ≤ 24 ∧ σ.2.1 3 j ≤ 6 ∧ σ.2.1 4 j ≤ 6 ∧ σ.2.1 5 j ≤ 9
def zA (σ : zT) (u : dS) : Prop := (∀ k, 1 ≤ k → k ≤ 5 → ∀ j, j < 6 → u.2 k j = nI (σ.2.1 k j)) ∧ u.1 6 = σ.2.2
def zD (σ : zT) (u : dS) : Prop := zA σ u ∧ ∀ j, j < 32 → bt (u.1 0) j = (decide (j < 6) && σ.1 j)
def zM (σ : zT) (u : dS) : Prop := zA σ u ∧ ∀ j, j < 6 → u.2 0 j = bI (σ.1 j)
theorem zA.fr {σ : zT} {u u' : dS} {js ks : List Nat} (h : zA σ u) (hf : dFr js ks u u') (h6 : 6 ∉ js) (hk : 1 ∉ ks ∧ 2 ∉ ks ∧ 3 ∉ ks ∧ 4 ∉ ks ∧ 5 ∉ ks) : zA σ u' := by
  refine ⟨fun k h1 h5 j hj => ?_, (hf.1 6 h6).trans h.2⟩
  have : k ∉ ks := by
    rcases (show k = 1 ∨ k = 2 ∨ k = 3 ∨ k = 4 ∨ k = 5 by omega) with q | q | q | q | q <;> subst q
    · exact hk.1
    · exact hk.2.1
    · exact hk.2.2.1
    · exact hk.2.2.2.1
    · exact hk.2.2.2.2
  rw [hf.2 k this]
  exact h.1 k h1 h5 j hj
theorem zD.fr {σ : zT} {u u' : dS} {js ks : List Nat} (h : zD σ u) (hf : dFr js ks u u') (h6 : 6 ∉ js ∧ 0 ∉ js) (hk : 1 ∉ ks ∧ 2 ∉ ks ∧ 3 ∉ ks ∧ 4 ∉ ks ∧ 5 ∉ ks) : zD σ u' := ⟨h.1.fr hf h6.1 hk, fun j hj => by rw [hf.1 0 h6.2]; exact h.2 j hj⟩
theorem zM.fr {σ : zT} {u u' : dS} {js ks : List Nat} (h : zM σ u) (hf : dFr js ks u u') (h6 : 6 ∉ js) (hk : 0 ∉ ks ∧ 1 ∉ ks ∧ 2 ∉ ks ∧ 3 ∉ ks ∧ 4 ∉ ks ∧ 5 ∉ ks) : zM σ u' := ⟨h.1.fr hf h6 hk.2, fun j hj => by rw [hf.2 0 hk.1]; exact h.2 j hj⟩
/-- the edges: the unit t lies in the window of the task j and isn't shut -/
def zed (σ : zT) (sh : Int32) (j t : Nat) : Bool := decide (σ.2.1 1 j ≤ t) && decide (t < σ.2.1 2 j) && !bt sh t
/-- the task x is present -/
def zh (th : Nat → Bool) (x : Int32) : Bool := if 0 ≤ x.toInt ∧ x.toInt < 6 then th x.toNatClampNeg else false
theorem zh_in {th : Nat → Bool} {j : Nat} (hj : j < 6) : zh th (nI j) = th j := by
  unfold zh
  rw [nI_toInt (by omega), if_pos (by omega), nI_clamp (by omega)]
theorem zh_out {th : Nat → Bool} {x : Int32} (h : x < 0 ∨ nI 6 ≤ x) : zh th x = false := by
  unfold zh
  rw [if_neg]
  rcases h with h | h
  · rw [Int32.lt_iff_toInt_lt, Int32.toInt_zero] at h; omega
  · rw [Int32.le_iff_toInt_le, nI_toInt (by decide)] at h; omega
/-- a nobody is -1 -/
def zen (n : Nat) : Int32 := if n < 6 then nI n else -1
theorem zen_lt {n : Nat} (h : n < 6) : zen n = nI n := if_pos h
theorem zen_ge {n : Nat} (h : ¬ n < 6) : zen n = -1 := if_neg h
theorem zen_m1 {n : Nat} : zen n = -1 ↔ ¬ n < 6 := by
  constructor
  · intro h hn
    rw [zen_lt hn] at h
    exact n_neg (by omega) h
  · exact zen_ge
end
section
/-! the search for a chain, in plain words: L the line of n reached tasks (R), g what each gives up, wb who wants it -/
def zB (e : Nat → Nat → Bool) (o : Nat → Nat) (r : Nat) (L g wb : Nat → Nat) (R : Nat → Bool) (n : Nat) : Prop :=
  r < 6 ∧ 1 ≤ n ∧ L 0 = r ∧ (∀ q, q < n → L q < 6 ∧ R (L q) = true) ∧ (∀ i, i < 6 → R i = true → ∃ q, q < n ∧ L q = i) ∧ (∀ q q', q < n → q' < n → L q = L q' → q = q') ∧ (∀ q, 1 ≤ q → q < n → ∃ q', q' < q ∧ wb (L q) = L q' ∧ g (L q) < 24 ∧ o (g (L q)) = L q ∧ e (L q') (g (L q)) = true) ∧ n = zs (fun i => (R i).toNat) 6
def zLk (u : dS) (r : Nat) (L g wb : Nat → Nat) (R : Nat → Bool) (n : Nat) : Prop := (∀ q, q < n → u.2 10 q = nI (L q)) ∧ (∀ i, i < 6 → bt (u.1 9) i = R i) ∧ u.1 11 = nI n ∧ (∀ i, i < 6 → i ≠ r → R i = true → u.2 12 i = nI (g i) ∧ u.2 13 i = nI (wb i)) ∧ u.2 13 r = -1
def zO (u : dS) (o : Nat → Nat) : Prop := ∀ t, t < 24 → u.2 8 t = zen (o t)
theorem zB_le {e : Nat → Nat → Bool} {o : Nat → Nat} {r : Nat} {L g wb : Nat → Nat} {R : Nat → Bool} {n : Nat} (h : zB e o r L g wb R n) : n ≤ 6 := by
  have h8 := h.2.2.2.2.2.2.2
  have : zs (fun i => (R i).toNat) 6 ≤ 6 * 1 := zs_bound (fun i _ => by cases R i <;> decide)
  omega
theorem zB_lt {e : Nat → Nat → Bool} {o : Nat → Nat} {r : Nat} {L g wb : Nat → Nat} {R : Nat → Bool} {n x : Nat} (h : zB e o r L g wb R n) (hx : x < 6) (hR : R x = false) : n < 6 := by
  have h8 := h.2.2.2.2.2.2.2
  have h9 : zs (fun i => if i = x then (R i).toNat + 1 else (R i).toNat) 6 ≤ 6 * 1 := zs_bound (fun i _ => by
    by_cases hi : i = x
    · subst hi; simp [hR]
    · simp only [hi, if_false]; cases R i <;> decide)
  rw [zs_upd hx] at h9
  omega
theorem zB_add {e : Nat → Nat → Bool} {o : Nat → Nat} {r : Nat} {L g wb : Nat → Nat} {R : Nat → Bool} {n k t x : Nat} (h : zB e o r L g wb R n) (hk : k < n) (ht : t < 24) (ho : o t = x) (hx : x < 6) (hR : R x = false) (he : e (L k) t = true) :
    zB e o r (fun q => if q = n then x else L q) (fun i => if i = x then t else g i) (fun i => if i = x then L k else wb i) (fun i => R i || decide (i = x)) (n + 1) := by
  obtain ⟨h1, h2, h3, h4, h5, h6, h7, h8⟩ := h
  have hne : ∀ q, q < n → L q ≠ x := fun q hq e1 => by
    have := (h4 q hq).2
    rw [e1, hR] at this
    cases this
  refine ⟨h1, by omega, ?_, ?_, ?_, ?_, ?_, ?_⟩
  · simp only []
    rw [if_neg (by omega)]; exact h3
  · intro q hq
    simp only []
    by_cases hqn : q = n
    · simp [hqn, hx]
    · have := h4 q (by omega)
      simp [hqn, this.1, this.2]
  · intro i hi hRi
    simp only [] at hRi ⊢
    by_cases hix : i = x
    · exact ⟨n, by omega, by rw [if_pos rfl]; exact hix.symm⟩
    · simp [hix] at hRi
      obtain ⟨q, a, b⟩ := h5 i hi hRi
      exact ⟨q, by omega, by rw [if_neg (by omega)]; exact b⟩
  · intro q q' hq hq' hqq
    simp only [] at hqq
    by_cases a : q = n
    · by_cases b : q' = n
      · omega
      · rw [if_pos a, if_neg b] at hqq
        exact absurd hqq.symm (hne q' (by omega))
    · by_cases b : q' = n
      · rw [if_neg a, if_pos b] at hqq
        exact absurd hqq (hne q (by omega))
      · rw [if_neg a, if_neg b] at hqq
        exact h6 q q' (by omega) (by omega) hqq
  · intro q hq1 hq
    simp only []
    by_cases a : q = n
    · refine ⟨k, by omega, ?_⟩
      rw [if_pos a, if_pos rfl, if_pos rfl, if_neg (show ¬ k = n by omega)]
      exact ⟨rfl, ht, ho, he⟩
    · obtain ⟨q', b1, b2, b3, b4, b5⟩ := h7 q hq1 (by omega)
      refine ⟨q', b1, ?_⟩
      rw [if_neg a, if_neg (hne q (by omega)), if_neg (hne q (by omega)), if_neg (show ¬ q' = n by omega)]
      exact ⟨b2, b3, b4, b5⟩
  · have e1 : zs (fun i => (R i || decide (i = x)).toNat) 6 = zs (fun i => if i = x then (R i).toNat + 1 else (R i).toNat) 6 := zs_congr (fun i _ => by
      by_cases hi : i = x
      · subst hi; simp [hR]
      · simp [hi])
    rw [e1, zs_upd hx]; omega
/-- a new task's words in the picture -/
theorem zLk_add {u u' : dS} {r : Nat} {L g wb : Nat → Nat} {R : Nat → Bool} {n k t x : Nat} (h : zLk u r L g wb R n) (hx : x < 6) (hr : x ≠ r)
    (h10 : ∀ q, u'.2 10 q = if q = n then nI x else u.2 10 q) (h9 : ∀ i, i < 6 → bt (u'.1 9) i = (bt (u.1 9) i || decide (i = x))) (h11 : u'.1 11 = nI (n + 1)) (h12 : ∀ i, u'.2 12 i = if i = x then nI t else u.2 12 i) (h13 : ∀ i, u'.2 13 i = if i = x then nI (L k) else u.2 13 i) :
    zLk u' r (fun q => if q = n then x else L q) (fun i => if i = x then t else g i) (fun i => if i = x then L k else wb i) (fun i => R i || decide (i = x)) (n + 1) := by
  obtain ⟨a1, a2, a3, a4, a5⟩ := h
  refine ⟨fun q hq => ?_, fun i hi => ?_, h11, fun i hi hir hRi => ?_, ?_⟩
  · rw [h10]
    by_cases hqn : q = n
    · simp [hqn]
    · simp only [hqn, if_false]; exact a1 q (by omega)
  · rw [h9 i hi, a2 i hi]
  · rw [h12, h13]
    by_cases hix : i = x
    · simp [hix]
    · simp only [hix, if_false]
      refine a4 i hi hir ?_
      simpa [hix] using hRi
  · rw [h13, if_neg (fun q => hr q.symm)]; exact a5
end
section
/-! the order of tasks, the greedy numbers, their place in the dictionary, that they are best -/
def zbf (σ : zT) (i j : Nat) : Prop := σ.2.1 5 j < σ.2.1 5 i ∨ (σ.2.1 5 i = σ.2.1 5 j ∧ i < j)
def zOrd (σ : zT) (od : Nat → Nat) (c : Nat) : Prop := c ≤ 6 ∧ (∀ q, q < c → od q < 6 ∧ σ.1 (od q) = true) ∧ (∀ j, j < 6 → σ.1 j = true → ∃ q, q < c ∧ od q = j) ∧ ∀ q q', q < q' → q' < c → zbf σ (od q) (od q')
theorem zOrd.inj {σ : zT} {od : Nat → Nat} {c : Nat} (h : zOrd σ od c) : ∀ q q', q < c → q' < c → od q = od q' → q = q' := by
  have irr : ∀ i, ¬ zbf σ i i := fun i hi => by
    rcases hi with hi | hi
    · omega
    · omega
  intro q q' hq hq' e
  rcases Nat.lt_trichotomy q q' with z | z | z
  · have := h.2.2.2 q q' z hq'
    rw [e] at this
    exact absurd this (irr _)
  · exact z
  · have := h.2.2.2 q' q z hq
    rw [e] at this
    exact absurd this (irr _)
def zin (od : Nat → Nat) (k i : Nat) : Bool := (List.range k).any (fun q => od q == i)
theorem zin_iff {od : Nat → Nat} {k i : Nat} : zin od k i = true ↔ ∃ q, q < k ∧ od q = i := by
  unfold zin
  rw [List.any_eq_true]
  constructor
  · rintro ⟨q, h1, h2⟩
    exact ⟨q, List.mem_range.mp h1, by simpa using h2⟩
  · rintro ⟨q, h1, h2⟩
    exact ⟨q, List.mem_range.mpr h1, by simpa using h2⟩
theorem zin_0 (od : Nat → Nat) (i : Nat) : zin od 0 i = false := rfl
theorem zin_up {od : Nat → Nat} {k k' i : Nat} (h : zin od k i = true) (hk : k ≤ k') : zin od k' i = true := by
  obtain ⟨q, h1, h2⟩ := zin_iff.mp h
  exact zin_iff.mpr ⟨q, by omega, h2⟩
theorem zin_s {od : Nat → Nat} {k i : Nat} : zin od (k + 1) i = (zin od k i || decide (i = od k)) := by
  cases h : zin od (k + 1) i with
  | true =>
    obtain ⟨q, h1, h2⟩ := zin_iff.mp h
    by_cases hq : q = k
    · subst hq; simp [h2]
    · have : zin od k i = true := zin_iff.mpr ⟨q, by omega, h2⟩
      simp [this]
  | false =>
    cases h1 : zin od k i with
    | true => rw [zin_up h1 (Nat.le_succ k)] at h; cases h
    | false =>
      by_cases hi : i = od k
      · have : zin od (k + 1) i = true := zin_iff.mpr ⟨k, by omega, hi.symm⟩
        rw [this] at h; cases h
      · simp [hi]
theorem zin_n {od : Nat → Nat} {c k : Nat} (hi : ∀ q q', q < c → q' < c → od q = od q' → q = q') (hk : k < c) : zin od k (od k) = false := by
  cases h : zin od k (od k) with
  | false => rfl
  | true =>
    obtain ⟨q, h1, h2⟩ := zin_iff.mp h
    have := hi q k (by omega) hk h2
    omega
theorem zOrd.in {σ : zT} {od : Nat → Nat} {c : Nat} (h : zOrd σ od c) {j : Nat} (hj : j < 6) : zin od c j = σ.1 j := by
  cases hs : σ.1 j with
  | true => exact zin_iff.mpr (h.2.2.1 j hj hs)
  | false =>
    cases hz : zin od c j with
    | false => rfl
    | true =>
      obtain ⟨q, h1, h2⟩ := zin_iff.mp hz
      have := (h.2.1 q h1).2
      rw [h2, hs] at this
      cases this
theorem zs_od {od : Nat → Nat} {c : Nat} (hl : ∀ q, q < c → od q < 6) (hi : ∀ q q', q < c → q' < c → od q = od q' → q = q') (f : Nat → Nat) : ∀ k, k ≤ c → zs (fun q => f (od q)) k = zs (fun j => if zin od k j = true then f j else 0) 6 := by
  intro k
  induction k with
  | zero => intro _; exact (zs_zero (fun i _ => by simp [zin_0])).symm
  | succ k ih =>
    intro hk
    show zs (fun q => f (od q)) k + f (od k) = _
    rw [ih (by omega), ← zs_upd (d := f (od k)) (hl k (by omega))]
    refine zs_congr (fun j _ => ?_)
    by_cases hj : j = od k
    · subst hj
      simp [zin_s, zin_n hi (show k < c by omega)]
    · simp [zin_s, hj]
def zpv (w0 : Nat → Nat) (od K : Nat → Nat) (k i : Nat) : Nat := w0 i + (if zin od k i = true then K i else 0)
def zGr (e : Nat → Nat → Bool) (w0 ma od : Nat → Nat) (c : Nat) (K : Nat → Nat) : Prop :=
  zhall e (zpv w0 od K c) ∧ ∀ k, k < c → K (od k) ≤ ma (od k) ∧ (K (od k) < ma (od k) → ¬ zhall e (zadd (zpv w0 od K (k + 1)) (od k) 1))
theorem zpv_le {w0 od K : Nat → Nat} {k k' : Nat} (h : k ≤ k') (i : Nat) : zpv w0 od K k i ≤ zpv w0 od K k' i := by
  unfold zpv
  by_cases h1 : zin od k i = true
  · rw [if_pos h1, if_pos (zin_up h1 h)]; exact Nat.le_refl _
  · rw [if_neg h1]; omega
/-- no feasible numbers are ahead of the greedy ones in the dictionary -/
theorem zGr_lex {e : Nat → Nat → Bool} {w0 ma od K v : Nat → Nat} {c : Nat} (hG : zGr e w0 ma od c K) (hv : ∀ q, q < c → v (od q) ≤ ma (od q)) (hf : zhall e (zpv w0 od v c)) {k : Nat} (hk : k < c) (he : ∀ q, q < k → v (od q) = K (od q)) : v (od k) ≤ K (od k) := by
  refine Classical.byContradiction (fun hn => ?_)
  have h1 := hv k hk
  refine (hG.2 k hk).2 (by omega) (zhall_mono (fun i _ => ?_) hf)
  unfold zadd zpv
  by_cases hi : i = od k
  · subst hi
    rw [if_pos rfl, if_pos (zin_iff.mpr ⟨k, by omega, rfl⟩), if_pos (zin_iff.mpr ⟨k, hk, rfl⟩)]
    omega
  · rw [if_neg hi]
    by_cases hz : zin od (k + 1) i = true
    · obtain ⟨q, a, b⟩ := zin_iff.mp hz
      have hq : q < k := by
        rcases Nat.lt_or_ge q k with z | z
        · exact z
        · exact absurd (show i = od k by rw [← b, show q = k by omega]) hi
      rw [if_pos hz, if_pos (zin_up hz (by omega)), ← b, he q hq]
      exact Nat.le_refl _
    · rw [if_neg hz]; omega
theorem zw_split (f : Nat → Nat) (T : Nat → Bool) : zs f 6 = zw f T + zw f (fun j => !T j) := by
  unfold zw
  rw [← zs_add]
  refine zs_congr (fun j _ => ?_)
  show f j = (if T j = true then f j else 0) + (if (!T j) = true then f j else 0)
  cases T j <;> simp
theorem ztight_0 {e : Nat → Nat → Bool} {w : Nat → Nat} (h : zhall e w) : ∃ S, ztight e w S := by
  obtain ⟨T, h1, -⟩ := ztight_union h (fun _ _ => True) (fun _ _ _ _ _ => trivial) 0 (fun k hk => absurd hk (by omega))
  exact ⟨T, h1⟩
/-- the first i tasks of the order together keep the most -/
theorem zGr_pre {e : Nat → Nat → Bool} {w0 ma od K v : Nat → Nat} {c : Nat} (hl : ∀ q, q < c → od q < 6) (hi : ∀ q q', q < c → q' < c → od q = od q' → q = q') (hG : zGr e w0 ma od c K) (hv : ∀ q, q < c → v (od q) ≤ ma (od q)) (hf : zhall e (zpv w0 od v c)) {i : Nat} (hic : i ≤ c) : zs (fun q => v (od q)) i ≤ zs (fun q => K (od q)) i := by
  have hW : zhall e (zpv w0 od K i) := zhall_mono (fun j _ => zpv_le hic j) hG.1
  obtain ⟨T, t1, t2⟩ := ztight_union hW (fun k S => K (od k) < ma (od k) → S (od k) = true) (fun k S T hST hS h => hST _ (hS h)) i (fun k hk => by
    by_cases hd : K (od k) < ma (od k)
    · obtain ⟨S, s1, s2⟩ := ztight_of hW (fun j _ => zpv_le (show k + 1 ≤ i by omega) j) ((hG.2 k (by omega)).2 hd) (hl k (by omega))
      exact ⟨S, s1, fun _ => s2⟩
    · obtain ⟨S, s1⟩ := ztight_0 hW
      exact ⟨S, s1, fun h => absurd h hd⟩)
  rw [zs_od hl hi v i hic, zs_od hl hi K i hic, zw_split _ T, zw_split (fun j => if zin od i j = true then K j else 0) T]
  have hin : zw (fun j => if zin od i j = true then v j else 0) T ≤ zw (fun j => if zin od i j = true then K j else 0) T := by
    have a1 := hf T
    have a2 : zw (fun j => w0 j + (if zin od i j = true then v j else 0)) T ≤ zw (zpv w0 od v c) T := zw_mono (fun j _ hs => ⟨hs, by
      unfold zpv
      by_cases hz : zin od i j = true
      · rw [if_pos hz, if_pos (zin_up hz hic)]; exact Nat.le_refl _
      · rw [if_neg hz]; omega⟩)
    have sp : ∀ f : Nat → Nat, zw (fun j => w0 j + f j) T = zw w0 T + zw f T := fun f => by
      unfold zw
      rw [← zs_add]
      exact zs_congr (fun j _ => by dsimp only; split <;> omega)
    have a3 : zw (zpv w0 od K i) T = zw w0 T + zw (fun j => if zin od i j = true then K j else 0) T := sp (fun j => if zin od i j = true then K j else 0)
    rw [sp] at a2
    unfold ztight at t1
    omega
  have hout : zw (fun j => if zin od i j = true then v j else 0) (fun j => !T j) ≤ zw (fun j => if zin od i j = true then K j else 0) (fun j => !T j) := zw_mono (fun j _ hs => ⟨hs, by
    by_cases hz : zin od i j = true
    · rw [if_pos hz, if_pos hz]
      obtain ⟨q, b1, b2⟩ := zin_iff.mp hz
      subst b2
      have b3 := hv q (by omega)
      rcases Nat.lt_or_ge (K (od q)) (ma (od q)) with z | z
      · rw [t2 q b1 z] at hs; cases hs
      · omega
    · rw [if_neg hz]; omega⟩)
  omega
theorem zabel {wo a b : Nat → Nat} : ∀ c, (∀ i, i ≤ c → zs a i ≤ zs b i) → (∀ q q', q < q' → q' < c → wo q' ≤ wo q) → ∀ x, (∀ q, q < c → x ≤ wo q) → zs (fun q => wo q * a q) c + x * zs b c ≤ zs (fun q => wo q * b q) c + x * zs a c := by
  intro c
  induction c with
  | zero => intro _ _ x _; simp [zs]
  | succ c ih =>
    intro h1 h2 x hx
    have h3 := ih (fun i hi => h1 i (by omega)) (fun q q' a b => h2 q q' a (by omega)) (wo c) (fun q hq => h2 q c hq (by omega))
    have h4 := h1 (c + 1) (Nat.le_refl _)
    have h5 := hx c (by omega)
    simp only [zs] at h4 ⊢
    obtain ⟨d, hd⟩ : ∃ d, wo c = x + d := ⟨wo c - x, by omega⟩
    rw [hd] at h3 ⊢
    have h6 : d * (zs a c + a c) ≤ d * (zs b c + b c) := Nat.mul_le_mul_left d h4
    simp only [Nat.mul_add, Nat.add_mul] at h3 h6 ⊢
    omega
def zlost (σ : zT) (v : Nat → Nat) : Nat := zs (fun j => if σ.1 j = true then σ.2.1 5 j * (σ.2.1 4 j - v j) else 0) 6
theorem zlost_od {σ : zT} {od : Nat → Nat} {c : Nat} (h : zOrd σ od c) (v : Nat → Nat) : zlost σ v = zs (fun q => σ.2.1 5 (od q) * (σ.2.1 4 (od q) - v (od q))) c := by
  rw [zs_od (fun q hq => (h.2.1 q hq).1) h.inj (fun j => σ.2.1 5 j * (σ.2.1 4 j - v j)) c (Nat.le_refl _)]
  exact zs_congr (fun j hj => by rw [h.in hj])
/-- the greedy numbers lose least -/
theorem zGr_best {e : Nat → Nat → Bool} {σ : zT} {w0 od K v : Nat → Nat} {c : Nat} (h : zOrd σ od c) (hG : zGr e w0 (σ.2.1 4) od c K) (hv : ∀ q, q < c → v (od q) ≤ σ.2.1 4 (od q)) (hf : zhall e (zpv w0 od v c)) : zlost σ K ≤ zlost σ v := by
  have hl : ∀ q, q < c → od q < 6 := fun q hq => (h.2.1 q hq).1
  have h1 := zabel (wo := fun q => σ.2.1 5 (od q)) (a := fun q => v (od q)) (b := fun q => K (od q)) c (fun i hi => zGr_pre hl h.inj hG hv hf hi) (fun q q' a b => by
    rcases h.2.2.2 q q' a b with z | z
    · omega
    · omega) 0 (fun q _ => Nat.zero_le _)
  simp only [Nat.zero_mul, Nat.add_zero] at h1
  rw [zlost_od h, zlost_od h]
  have sp : ∀ f : Nat → Nat, (∀ q, q < c → f (od q) ≤ σ.2.1 4 (od q)) → zs (fun q => σ.2.1 5 (od q) * (σ.2.1 4 (od q) - f (od q))) c + zs (fun q => σ.2.1 5 (od q) * f (od q)) c = zs (fun q => σ.2.1 5 (od q) * σ.2.1 4 (od q)) c := by
    intro f hf
    rw [← zs_add]
    refine zs_congr (fun q hq => ?_)
    rw [← Nat.mul_add, Nat.sub_add_cancel (hf q hq)]
  have h2 := sp v hv
  have h3 := sp K (fun q hq => (hG.2 q hq).1)
  omega
theorem zmaxn (P : Nat → Prop) (h0 : P 0) : ∀ m, ∃ n, n ≤ m ∧ P n ∧ (n < m → ¬ P (n + 1)) := by
  intro m
  induction m with
  | zero => exact ⟨0, Nat.le_refl _, h0, fun h => absurd h (by omega)⟩
  | succ m ih =>
    obtain ⟨n, a, b, d⟩ := ih
    by_cases hn : n < m
    · exact ⟨n, by omega, b, fun _ => d hn⟩
    · by_cases hp : P (n + 1)
      · exact ⟨n + 1, by omega, hp, fun h => absurd h (by omega)⟩
      · exact ⟨n, by omega, b, fun _ => hp⟩
/-- one more task's number -/
theorem zpv_put {w0 od K : Nat → Nat} {c k n : Nat} (hi : ∀ q q', q < c → q' < c → od q = od q' → q = q') (hk : k < c) (i : Nat) : zpv w0 od (fun i => if i = od k then n else K i) (k + 1) i = zadd (zpv w0 od K k) (od k) n i := by
  unfold zpv zadd
  by_cases h : i = od k
  · subst h
    simp [zin_s, zin_n hi hk]
  · simp [zin_s, h]
theorem zpv_old {w0 od K : Nat → Nat} {c k n q : Nat} (hi : ∀ q q', q < c → q' < c → od q = od q' → q = q') (hk : k < c) (hq : q ≤ k) (i : Nat) : zpv w0 od (fun i => if i = od k then n else K i) q i = zpv w0 od K q i := by
  unfold zpv
  by_cases h : zin od q i = true
  · rw [if_pos h, if_pos h]
    obtain ⟨x, a, b⟩ := zin_iff.mp h
    have : i ≠ od k := fun z => by
      have := hi x k (by omega) hk (by rw [b, z])
      omega
    simp [this]
  · rw [if_neg h, if_neg h]
theorem zhall_cg {e : Nat → Nat → Bool} {w w' : Nat → Nat} (h : ∀ i, i < 6 → w i = w' i) : zhall e w ↔ zhall e w' := ⟨zhall_mono (fun j hj => by rw [h j hj]; exact Nat.le_refl _), zhall_mono (fun j hj => by rw [h j hj]; exact Nat.le_refl _)⟩
/-- greedy numbers up to k -/
def zGk (e : Nat → Nat → Bool) (w0 ma od : Nat → Nat) (k : Nat) (K : Nat → Nat) : Prop := ∀ q, q < k → K (od q) ≤ ma (od q) ∧ (K (od q) < ma (od q) → ¬ zhall e (zadd (zpv w0 od K (q + 1)) (od q) 1))
theorem zGk_put {e : Nat → Nat → Bool} {w0 ma od K : Nat → Nat} {c k n : Nat} (hi : ∀ q q', q < c → q' < c → od q = od q' → q = q') (hk : k < c) (h : zGk e w0 ma od k K) (hn : n ≤ ma (od k)) (hx : n < ma (od k) → ¬ zhall e (zadd (zpv w0 od K k) (od k) (n + 1))) : zGk e w0 ma od (k + 1) (fun i => if i = od k then n else K i) := by
  intro q hq
  by_cases hqk : q = k
  · subst hqk
    simp only [if_true]
    refine ⟨hn, fun h1 h2 => hx h1 ((zhall_cg (fun i _ => ?_)).mp h2)⟩
    unfold zadd
    rw [zpv_put hi hk i]
    unfold zadd
    by_cases h : i = od q
    · rw [if_pos h, if_pos h, if_pos h, Nat.add_assoc]
    · rw [if_neg h, if_neg h, if_neg h]
  · have hne : od q ≠ od k := fun z => hqk (hi q k (by omega) hk z)
    simp only [hne, if_false]
    refine ⟨(h q (by omega)).1, fun h1 h2 => (h q (by omega)).2 h1 ((zhall_cg (fun i _ => ?_)).mp h2)⟩
    unfold zadd
    rw [zpv_old hi hk (by omega) i]
theorem zGr_ex {e : Nat → Nat → Bool} {w0 ma od : Nat → Nat} {c : Nat} (hi : ∀ q q', q < c → q' < c → od q = od q' → q = q') (h : zhall e w0) : ∃ K, zGr e w0 ma od c K := by
  have key : ∀ k, k ≤ c → ∃ K, zhall e (zpv w0 od K k) ∧ zGk e w0 ma od k K := by
    intro k
    induction k with
    | zero => intro _; exact ⟨fun _ => 0, (zhall_cg (fun i _ => by simp [zpv, zin_0])).mp h, fun q hq => absurd hq (by omega)⟩
    | succ k ih =>
      intro hk
      obtain ⟨K, a, b⟩ := ih (by omega)
      obtain ⟨n, n1, n2, n3⟩ := zmaxn (fun n => zhall e (zadd (zpv w0 od K k) (od k) n)) ((zhall_cg (fun i _ => by unfold zadd; split <;> omega)).mp a) (ma (od k))
      exact ⟨fun i => if i = od k then n else K i, (zhall_cg (fun i _ => zpv_put hi (show k < c by omega) i)).mpr n2, zGk_put hi (by omega) b n1 n3⟩
  obtain ⟨K, a, b⟩ := key c (Nat.le_refl _)
  exact ⟨K, a, b⟩
theorem zadd_zadd (w : Nat → Nat) (j a b q : Nat) : zadd (zadd w j a) j b q = zadd w j (a + b) q := by
  unfold zadd
  by_cases h : q = j
  · simp only [h, if_true]; omega
  · simp only [h, if_false]
end
section
/-! the first plan; an order exists; the number of a vector in the dictionary -/
/-- the edges from the time T on -/
def zel (σ : zT) (T j t : Nat) : Bool := zed σ σ.2.2 j t && decide (T ≤ t)
def zsubt (w : Nat → Nat) (j : Nat) : Nat → Nat := fun i => if i = j then w i - 1 else w i
def zok (σ : zT) (w : Nat → Nat) (t j : Nat) : Prop := 0 < w j ∧ zed σ σ.2.2 j t = true ∧ zhall (zel σ (t + 1)) (zsubt w j)
def zst (σ : zT) (w : Nat → Nat) (t p : Nat) (w' : Nat → Nat) : Prop := (p < 6 ∧ zok σ w t p ∧ (∀ i, i < p → ¬ zok σ w t i) ∧ ∀ i, i < 6 → w' i = zsubt w p i) ∨ (p = 6 ∧ (∀ i, i < 6 → ¬ zok σ w t i) ∧ ∀ i, i < 6 → w' i = w i)
def zPl (σ : zT) (w0 : Nat → Nat) (n : Nat) (p : Nat → Nat) (W : Nat → Nat → Nat) : Prop := (∀ j, j < 6 → W 0 j = w0 j) ∧ ∀ t, t < n → zst σ (W t) t (p t) (W (t + 1))
theorem zok_cg {σ : zT} {w w' : Nat → Nat} {t j : Nat} (hj : j < 6) (h : ∀ i, i < 6 → w i = w' i) : zok σ w t j ↔ zok σ w' t j := by
  unfold zok
  rw [h j hj, zhall_cg (w := zsubt w j) (w' := zsubt w' j) (fun i hi => by unfold zsubt; rw [h i hi])]
theorem zst_det {σ : zT} {w v w' v' : Nat → Nat} {t p q : Nat} (h : ∀ i, i < 6 → w i = v i) (h1 : zst σ w t p w') (h2 : zst σ v t q v') : p = q ∧ ∀ i, i < 6 → w' i = v' i := by
  have hcg : ∀ j, j < 6 → (zok σ w t j ↔ zok σ v t j) := fun j hj => zok_cg hj h
  have hpq : p = q := by
    rcases h1 with ⟨a1, a2, a3, -⟩ | ⟨a1, a2, -⟩ <;> rcases h2 with ⟨b1, b2, b3, -⟩ | ⟨b1, b2, -⟩
    · rcases Nat.lt_trichotomy p q with z | z | z
      · exact absurd ((hcg p a1).mp a2) (b3 p z)
      · exact z
      · exact absurd ((hcg q b1).mpr b2) (a3 q z)
    · exact absurd ((hcg p a1).mp a2) (b2 p a1)
    · exact absurd ((hcg q b1).mpr b2) (a2 q b1)
    · omega
  subst hpq
  refine ⟨rfl, fun i hi => ?_⟩
  rcases h1 with ⟨a1, -, -, a4⟩ | ⟨a1, -, a4⟩ <;> rcases h2 with ⟨b1, -, -, b4⟩ | ⟨b1, -, b4⟩
  · rw [a4 i hi, b4 i hi]; unfold zsubt; rw [h i hi]
  · omega
  · omega
  · rw [a4 i hi, b4 i hi, h i hi]
theorem zPl_det {σ : zT} {w0 p p' : Nat → Nat} {W W' : Nat → Nat → Nat} {n n' : Nat} (h1 : zPl σ w0 n p W) (h2 : zPl σ w0 n' p' W') : ∀ t, t < n → t < n' → p t = p' t := by
  have key : ∀ t, t ≤ n → t ≤ n' → ∀ i, i < 6 → W t i = W' t i := by
    intro t
    induction t with
    | zero => intro _ _ i hi; rw [h1.1 i hi, h2.1 i hi]
    | succ t ih => intro a b; exact (zst_det (ih (by omega) (by omega)) (h1.2 t (by omega)) (h2.2 t (by omega))).2
  exact fun t a b => (zst_det (key t (by omega) (by omega)) (h1.2 t a) (h2.2 t b)).1
/-- one more unit of the plan -/
theorem zPl_put {σ : zT} {w0 p : Nat → Nat} {W : Nat → Nat → Nat} {n r : Nat} {w' : Nat → Nat} (h : zPl σ w0 n p W) (hs : zst σ (W n) n r w') : zPl σ w0 (n + 1) (fun s => if s = n then r else p s) (fun s => if s = n + 1 then w' else W s) := by
  refine ⟨fun j hj => ?_, fun t ht => ?_⟩
  · simp only [show ¬ (0 = n + 1) by omega, if_false]; exact h.1 j hj
  · by_cases htn : t = n
    · subst htn
      simp only [if_true, show ¬ (t = t + 1) by omega, if_false]; exact hs
    · simp only [htn, if_false, show ¬ (t = n + 1) by omega, show ¬ (t + 1 = n + 1) by omega]; exact h.2 t (by omega)
/-! places -/
def zbb (σ : zT) (i j : Nat) : Bool := decide (σ.2.1 5 j < σ.2.1 5 i) || (decide (σ.2.1 5 i = σ.2.1 5 j) && decide (i < j))
theorem zbb_iff {σ : zT} {i j : Nat} : zbb σ i j = true ↔ zbf σ i j := by simp [zbb, zbf]
def zpl (σ : zT) (j : Nat) : Nat := zs (fun i => if (σ.1 i && zbb σ i j) = true then 1 else 0) 6
def zcnt (σ : zT) : Nat := zs (fun j => if σ.1 j = true then 1 else 0) 6
theorem zs_one_le {f : Nat → Nat} : ∀ n, (∀ i, i < n → f i ≤ 1) → (∀ i j, i < n → j < n → f i = 1 → f j = 1 → i = j) → zs f n ≤ 1 := by
  intro n
  induction n with
  | zero => intro _ _; exact Nat.zero_le _
  | succ n ih =>
    intro h1 h2
    simp only [zs]
    by_cases hn : f n = 1
    · have : zs f n = 0 := zs_zero (fun i hi => by
        have a := h1 i (by omega)
        rcases Nat.lt_or_ge (f i) 1 with z | z
        · omega
        · have := h2 i n (by omega) (by omega) (by omega) hn
          omega)
      omega
    · have a := h1 n (by omega)
      have b := ih (fun i hi => h1 i (by omega)) (fun i j hi hj => h2 i j (by omega) (by omega))
      omega
theorem zs_full {f : Nat → Nat} : ∀ n, (∀ i, i < n → f i ≤ 1) → zs f n = n → ∀ i, i < n → f i = 1 := by
  intro n
  induction n with
  | zero => intro _ _ i hi; omega
  | succ n ih =>
    intro h1 h2 i hi
    simp only [zs] at h2
    have a := h1 n (by omega)
    have b : zs f n ≤ n * 1 := zs_bound (fun i hi => h1 i (by omega))
    by_cases hin : i = n
    · subst hin; omega
    · exact ih (fun i hi => h1 i (by omega)) (by omega) i (by omega)
theorem zpl_lt {σ : zT} {i j : Nat} (hi : i < 6) (hth : σ.1 i = true) (h : zbf σ i j) : zpl σ i < zpl σ j := by
  unfold zpl
  have e : zs (fun q => if q = i then (if (σ.1 q && zbb σ q i) = true then 1 else 0) + 1 else (if (σ.1 q && zbb σ q i) = true then 1 else 0)) 6 = zs (fun q => if (σ.1 q && zbb σ q i) = true then 1 else 0) 6 + 1 := zs_upd hi
  have irr : zbb σ i i = false := by
    cases hz : zbb σ i i with
    | false => rfl
    | true => have := zbb_iff.mp hz; unfold zbf at this; omega
  have le : zs (fun q => if q = i then (if (σ.1 q && zbb σ q i) = true then 1 else 0) + 1 else (if (σ.1 q && zbb σ q i) = true then 1 else 0)) 6 ≤ zs (fun q => if (σ.1 q && zbb σ q j) = true then 1 else 0) 6 := by
    refine zs_le (fun q hq => ?_)
    by_cases hqi : q = i
    · subst hqi
      simp [irr, hth, zbb_iff.mpr h]
    · simp only [hqi, if_false]
      by_cases hz : (σ.1 q && zbb σ q i) = true
      · rw [if_pos hz]
        rw [Bool.and_eq_true] at hz
        have z2 : zbf σ q j := by
          have z3 := zbb_iff.mp hz.2
          unfold zbf at z3 h ⊢
          omega
        rw [if_pos (by rw [hz.1, zbb_iff.mpr z2]; rfl)]
        exact Nat.le_refl _
      · rw [if_neg hz]; exact Nat.zero_le _
  omega
theorem zbf_tot {σ : zT} {i j : Nat} (h : i ≠ j) : zbf σ i j ∨ zbf σ j i := by
  unfold zbf
  omega
theorem zpl_c {σ : zT} {j : Nat} (hj : j < 6) (hth : σ.1 j = true) : zpl σ j < zcnt σ := by
  unfold zpl zcnt
  have e : zs (fun q => if q = j then (if (σ.1 q && zbb σ q j) = true then 1 else 0) + 1 else (if (σ.1 q && zbb σ q j) = true then 1 else 0)) 6 = zs (fun q => if (σ.1 q && zbb σ q j) = true then 1 else 0) 6 + 1 := zs_upd hj
  have irr : zbb σ j j = false := by
    cases hz : zbb σ j j with
    | false => rfl
    | true => have := zbb_iff.mp hz; unfold zbf at this; omega
  have le : zs (fun q => if q = j then (if (σ.1 q && zbb σ q j) = true then 1 else 0) + 1 else (if (σ.1 q && zbb σ q j) = true then 1 else 0)) 6 ≤ zs (fun q => if σ.1 q = true then 1 else 0) 6 := by
    refine zs_le (fun q hq => ?_)
    by_cases hqi : q = j
    · subst hqi; simp [irr, hth]
    · simp only [hqi, if_false]
      cases σ.1 q <;> cases zbb σ q j <;> simp
  omega
theorem zpl_inj {σ : zT} {i j : Nat} (hi : i < 6) (hj : j < 6) (h1 : σ.1 i = true) (h2 : σ.1 j = true) (h : zpl σ i = zpl σ j) : i = j := by
  rcases Nat.lt_trichotomy i j with z | z | z
  · rcases zbf_tot (σ := σ) (show i ≠ j by omega) with y | y
    · have := zpl_lt hi h1 y; omega
    · have := zpl_lt hj h2 y; omega
  · exact z
  · rcases zbf_tot (σ := σ) (show i ≠ j by omega) with y | y
    · have := zpl_lt hi h1 y; omega
    · have := zpl_lt hj h2 y; omega
theorem zpl_sur {σ : zT} {q : Nat} (hq : q < zcnt σ) : ∃ j, j < 6 ∧ σ.1 j = true ∧ zpl σ j = q := by
  have hsum : zs (fun q => zs (fun j => if σ.1 j = true ∧ zpl σ j = q then 1 else 0) 6) (zcnt σ) = zcnt σ := by
    rw [zs_swap (fun q j => if σ.1 j = true ∧ zpl σ j = q then 1 else 0) (zcnt σ) 6]
    show _ = zs (fun j => if σ.1 j = true then 1 else 0) 6
    refine zs_congr (fun j hj => ?_)
    by_cases hth : σ.1 j = true
    · have e := zs_one (zpl σ j) 1 (zcnt σ)
      rw [if_pos (zpl_c hj hth)] at e
      rw [if_pos hth]
      refine Eq.trans (zs_congr (fun i _ => ?_)) e
      by_cases h : i = zpl σ j
      · simp [h, hth]
      · have : ¬ zpl σ j = i := fun z => h z.symm
        simp [h, this]
    · rw [if_neg hth]
      exact zs_zero (fun i _ => by simp [hth])
  have hle : ∀ q, q < zcnt σ → zs (fun j => if σ.1 j = true ∧ zpl σ j = q then 1 else 0) 6 ≤ 1 := by
    intro q _
    refine zs_one_le 6 (fun i _ => by split <;> omega) (fun i j hi hj a b => ?_)
    have a' : σ.1 i = true ∧ zpl σ i = q := Classical.byContradiction (fun z => by rw [if_neg z] at a; cases a)
    have b' : σ.1 j = true ∧ zpl σ j = q := Classical.byContradiction (fun z => by rw [if_neg z] at b; cases b)
    exact zpl_inj hi hj a'.1 b'.1 (by omega)
  have h1 := zs_full (zcnt σ) hle hsum q hq
  refine Classical.byContradiction (fun hn => ?_)
  have h0 : zs (fun j => if σ.1 j = true ∧ zpl σ j = q then 1 else 0) 6 = 0 := zs_zero (fun j hj => if_neg (fun z => hn ⟨j, hj, z.1, z.2⟩))
  omega
/-- tasks laid down at their places are in order -/
theorem zOrd_of {σ : zT} {od : Nat → Nat} (h : ∀ j, j < 6 → σ.1 j = true → od (zpl σ j) = j) : zOrd σ od (zcnt σ) := by
  have hc : zcnt σ ≤ 6 * 1 := zs_bound (fun j _ => by split <;> omega)
  refine ⟨by omega, fun q hq => ?_, fun j hj hth => ⟨zpl σ j, zpl_c hj hth, h j hj hth⟩, fun q q' hqq hq' => ?_⟩
  · obtain ⟨j, a, b, d⟩ := zpl_sur hq
    rw [← d, h j a b]
    exact ⟨a, b⟩
  · obtain ⟨j, a, b, d⟩ := zpl_sur (show q < zcnt σ by omega)
    obtain ⟨i, a', b', d'⟩ := zpl_sur hq'
    subst d d'
    rw [h j a b, h i a' b']
    rcases zbf_tot (σ := σ) (show j ≠ i by intro z; subst z; omega) with y | y
    · exact y
    · have := zpl_lt a' b' y; omega
theorem zOrd_ex (σ : zT) : ∃ od c, zOrd σ od c := by
  have ch : ∀ q, ∃ j, (∃ i, i < 6 ∧ σ.1 i = true ∧ zpl σ i = q) → j < 6 ∧ σ.1 j = true ∧ zpl σ j = q := fun q => by
    by_cases h : ∃ i, i < 6 ∧ σ.1 i = true ∧ zpl σ i = q
    · obtain ⟨i, hi⟩ := h
      exact ⟨i, fun _ => hi⟩
    · exact ⟨0, fun z => absurd z h⟩
  refine ⟨fun q => Classical.choose (ch q), zcnt σ, zOrd_of (fun j hj hth => ?_)⟩
  have := Classical.choose_spec (ch (zpl σ j)) ⟨j, hj, hth, rfl⟩
  exact zpl_inj this.1 hj this.2.1 hth this.2.2
/-! the number of a vector in the dictionary, from the greatest down -/
def zrk (ma od v : Nat → Nat) : Nat → Nat
  | 0 => 0
  | k + 1 => zrk ma od v k * (ma (od k) + 1) + (ma (od k) - v (od k))
theorem zrk_eq {ma od v K : Nat → Nat} : ∀ c, (∀ q, q < c → v (od q) ≤ ma (od q)) → (∀ q, q < c → K (od q) ≤ ma (od q)) → zrk ma od v c = zrk ma od K c → ∀ q, q < c → v (od q) = K (od q) := by
  intro c
  induction c with
  | zero => intro _ _ _ q hq; omega
  | succ c ih =>
    intro hv hK h q hq
    simp only [zrk] at h
    have a := hv c (by omega)
    have b := hK c (by omega)
    have e1 : zrk ma od v c = zrk ma od K c := by
      have h1 : (zrk ma od v c * (ma (od c) + 1) + (ma (od c) - v (od c))) / (ma (od c) + 1) = (zrk ma od K c * (ma (od c) + 1) + (ma (od c) - K (od c))) / (ma (od c) + 1) := by rw [h]
      rw [Nat.mul_comm, Nat.mul_add_div (by omega), Nat.mul_comm (zrk ma od K c), Nat.mul_add_div (by omega), Nat.div_eq_of_lt (by omega), Nat.div_eq_of_lt (by omega)] at h1
      omega
    by_cases hqc : q = c
    · subst hqc; rw [e1] at h; omega
    · exact ih (fun q hq => hv q (by omega)) (fun q hq => hK q (by omega)) e1 q (by omega)
theorem zrk_lt {ma od v K : Nat → Nat} : ∀ c, (∀ q, q < c → v (od q) ≤ ma (od q)) → (∀ q, q < c → K (od q) ≤ ma (od q)) → zrk ma od v c < zrk ma od K c → ∃ k, k < c ∧ (∀ q, q < k → v (od q) = K (od q)) ∧ K (od k) < v (od k) := by
  intro c
  induction c with
  | zero => intro _ _ h; simp [zrk] at h
  | succ c ih =>
    intro hv hK h
    simp only [zrk] at h
    have a := hv c (by omega)
    have b := hK c (by omega)
    rcases Nat.lt_trichotomy (zrk ma od v c) (zrk ma od K c) with z | z | z
    · obtain ⟨k, k1, k2, k3⟩ := ih (fun q hq => hv q (by omega)) (fun q hq => hK q (by omega)) z
      exact ⟨k, by omega, k2, k3⟩
    · rw [z] at h
      exact ⟨c, by omega, fun q hq => zrk_eq c (fun q hq => hv q (by omega)) (fun q hq => hK q (by omega)) z q hq, by omega⟩
    · have : (zrk ma od K c + 1) * (ma (od c) + 1) ≤ zrk ma od v c * (ma (od c) + 1) := Nat.mul_le_mul_right _ z
      rw [Nat.add_mul] at this
      omega
theorem zrk_b {ma od v : Nat → Nat} : ∀ c, (∀ q, q < c → ma (od q) ≤ 6) → zrk ma od v c < 7 ^ c := by
  intro c
  induction c with
  | zero => intro _; simp [zrk]
  | succ c ih =>
    intro h
    have a := ih (fun q hq => h q (by omega))
    have b := h c (by omega)
    simp only [zrk]
    have h1 : (zrk ma od v c + 1) * (ma (od c) + 1) ≤ 7 ^ c * 7 := Nat.mul_le_mul a (by omega)
    rw [Nat.add_mul] at h1
    rw [Nat.pow_succ]
    omega
/-- all zeros come last -/
theorem zrk_0 {ma od v K : Nat → Nat} : ∀ c, (∀ q, q < c → v (od q) = 0) → zrk ma od K c ≤ zrk ma od v c := by
  intro c
  induction c with
  | zero => intro _; exact Nat.le_refl _
  | succ c ih =>
    intro h
    have a := ih (fun q hq => h q (by omega))
    have b := h c (by omega)
    simp only [zrk]
    have : zrk ma od K c * (ma (od c) + 1) ≤ zrk ma od v c * (ma (od c) + 1) := Nat.mul_le_mul_right _ a
    omega
/-- all at the greatest come first -/
theorem zrk_m {ma od v : Nat → Nat} : ∀ c, (∀ q, q < c → v (od q) = ma (od q)) → zrk ma od v c = 0 := by
  intro c
  induction c with
  | zero => intro _; rfl
  | succ c ih =>
    intro h
    simp only [zrk]
    rw [ih (fun q hq => h q (by omega)), h c (by omega)]
    omega
/-- the next one -/
theorem zrk_n {ma od v v' : Nat → Nat} {k : Nat} : ∀ c, k < c → (∀ q, q < k → v' (od q) = v (od q)) → v (od k) = v' (od k) + 1 → v (od k) ≤ ma (od k) → (∀ q, k < q → q < c → v (od q) = 0 ∧ v' (od q) = ma (od q)) → zrk ma od v' c = zrk ma od v c + 1 := by
  have pre : ∀ c, (∀ q, q < c → v' (od q) = v (od q)) → zrk ma od v' c = zrk ma od v c := by
    intro c
    induction c with
    | zero => intro _; rfl
    | succ c ih => intro h; simp only [zrk]; rw [ih (fun q hq => h q (by omega)), h c (by omega)]
  intro c
  induction c with
  | zero => intro h; omega
  | succ c ih =>
    intro hk h1 h2 h3 h4
    simp only [zrk]
    by_cases hkc : k = c
    · subst hkc
      rw [pre k h1]
      omega
    · have a := ih (by omega) h1 h2 h3 (fun q a b => h4 q a (by omega))
      have b := h4 c (by omega) (by omega)
      rw [a, b.1, b.2, Nat.add_mul]
      omega
end
section
/-! Desk: leaves -/
theorem met_has (l : Launch) {σ : zT} {u : dS} (hu : zD σ u) (x : Int32) : gMi dkC l yX0_has cX0_has 2 (some .boolean) (gR 0 0) [.int x] u (fun r u' => u' = u ∧ r = bI (zh σ.1 x)) := by
  refine gMz_of (by decide +kernel) (Nat.le_of_ble_eq_true rfl) cat1 ?_
  intro E a g k ret
  refine g_loc (lv' := [some (.ref (a 0)), some (.int x)]) rfl ?_
  refine g_iload_n g dX0_has_0 rfl rfl ?_
  refine g_iflt (tgt := 25) g dX0_has_1 (by decide) (Iff.rfl) (fun c1 => ?_) (fun c1 => ?_)
  · refine g_iconst (v := 0) g dX0_has_25 (by decide) ?_
    exact ret _ _ _ _ dX0_has_26 (Or.inl rfl) (⟨rfl, by rw [zh_out (Or.inl c1)]; rfl⟩)
  refine g_iload_n g dX0_has_4 rfl rfl ?_
  refine g_bipush (v := nI 6) g dX0_has_5 (by decide) ?_
  refine g_cmpge (tgt := 25) g dX0_has_7 (by decide) (Iff.rfl) (fun c2 => ?_) (fun c2 => ?_)
  · refine g_iconst (v := 0) g dX0_has_25 (by decide) ?_
    exact ret _ _ _ _ dX0_has_26 (Or.inl rfl) (⟨rfl, by rw [zh_out (Or.inr c2)]; rfl⟩)
  obtain ⟨j, hj, rfl⟩ : ∃ j, j < 6 ∧ x = nI j := by
    rcases n_in x 6 (by decide) with (h | h) | h
    · exact absurd h c1
    · exact absurd h c2
    · exact h
  refine g_aload_n g dX0_has_10 rfl rfl ?_
  refine dk_get0 g k dX0_has_11 ?_
  refine g_iload_n g dX0_has_14 rfl rfl ?_
  refine g_ishr g dX0_has_15 ?_
  refine g_iconst (v := 1) g dX0_has_16 (by decide) ?_
  refine g_iand g dX0_has_17 ?_
  refine g_top (b_get (by omega)) ?_
  rw [hu.2 j (by omega), decide_eq_true hj, Bool.true_and]
  refine g_ifeq (tgt := 25) g dX0_has_18 (by decide) (bI_0) (fun c3 => ?_) (fun c3 => ?_)
  · refine g_iconst (v := 0) g dX0_has_25 (by decide) ?_
    exact ret _ _ _ _ dX0_has_26 (Or.inl rfl) (⟨rfl, by rw [zh_in hj, c3]; rfl⟩)
  · refine g_iconst (v := 1) g dX0_has_21 (by decide) ?_
    refine g_goto (tgt := 26) g dX0_has_22 (by decide) ?_
    exact ret _ _ _ _ dX0_has_26 (Or.inr rfl) (⟨rfl, by rw [zh_in hj, eq_true_of_ne_false c3]; rfl⟩)
theorem met_begin (l : Launch) (u : dS) (x : Int32) : gMv dkC l yX0_begin cX0_begin 3 (gR 0 0) [.int x] u (fun u' => dFr [7] [8] u u' ∧ u'.1 7 = x ∧ ∀ t, t < 24 → u'.2 8 t = -1) := by
  refine gMv_of (by decide +kernel) (Nat.le_of_ble_eq_true rfl) cat1 ?_
  intro E a g k ret
  refine g_loc (lv' := [some (.ref (a 0)), some (.int x), none]) rfl ?_
  refine g_aload_n g dX0_begin_0 rfl rfl ?_
  refine g_iload_n g dX0_begin_1 rfl rfl ?_
  refine dk_put7 g k dX0_begin_2 ?_
  refine g_iconst (v := nI 0) g dX0_begin_5 (by decide) ?_
  refine g_istore_n g dX0_begin_6 rfl (Nat.le_of_ble_eq_true rfl) ?_
  have loop : ∀ i, i ≤ 24 → ∀ u1 : dS, dFr [7] [8] u u1 → u1.1 7 = x → (∀ t, t < i → u1.2 8 t = -1) → gG E 7 [some (.ref (a 0)), some (.int x), some (.int (nI i))] [] u1 := by
    refine zdown 24 (fun i hi ih u1 h1 h2 h3 => ?_)
    refine g_iload_n g dX0_begin_7 rfl rfl ?_
    refine g_bipush (v := nI 24) g dX0_begin_8 (by decide) ?_
    refine g_cmpge (tgt := 26) g dX0_begin_10 (by decide) (nI_leI (by omega) (by omega)) (fun c => ?_) (fun c => ?_)
    · exact ret _ _ _ dX0_begin_26 (⟨h1, h2, fun t ht => h3 t (by omega)⟩)
    · refine g_aload_n g dX0_begin_13 rfl rfl ?_
      refine dk_get8 g k dX0_begin_14 ?_
      refine g_iload_n g dX0_begin_17 rfl rfl ?_
      refine g_iconst (v := (-1)) g dX0_begin_18 (by decide) ?_
      refine dk_st8 g k dX0_begin_19 (rfl) (by omega) (n_nm) ?_
      refine g_iinc g dX0_begin_20 rfl (n_inc _) ?_
      refine g_goto (tgt := 7) g dX0_begin_23 (by decide) ?_
      refine ih (by omega) _ (h1.f (by decide)) h2 (fun t ht => ?_)
      rw [dF_2, if_pos rfl]
      split
      · rfl
      · exact h3 t (by omega)
  exact loop 0 (by omega) _ (dFr.rf.i (by decide)) (by rw [dI_1, if_pos rfl]) (fun t ht => absurd ht (by omega))
theorem met_inWindow (l : Launch) {σ : zT} {u : dS} (hs : zOk σ) (hu : zA σ u) {j t : Nat} (hj : j < 6) (ht : t < 24) : gMi dkC l yX0_inWindow cX0_inWindow 3 (some .boolean) (gR 0 0) [.int (nI j), .int (nI t)] u (fun r u' => u' = u ∧ r = bI (zed σ (u.1 7) j t)) := by
  refine gMz_of (by decide +kernel) (Nat.le_of_ble_eq_true rfl) cat2 ?_
  intro E a g k ret
  have hb := hs j hj
  have e1 := hu.1 1 (by omega) (by omega) j hj
  have e2 := hu.1 2 (by omega) (by omega) j hj
  refine g_loc (lv' := [some (.ref (a 0)), some (.int (nI j)), some (.int (nI t))]) rfl ?_
  refine g_iload_n g dX0_inWindow_0 rfl rfl ?_
  refine g_aload_n g dX0_inWindow_1 rfl rfl ?_
  refine dk_get1 g k dX0_inWindow_2 ?_
  refine g_iload_n g dX0_inWindow_5 rfl rfl ?_
  refine dk_ld1 g k dX0_inWindow_6 (rfl) (hj) ?_
  rw [e1]
  refine g_cmplt (tgt := 35) g dX0_inWindow_7 (by decide) (nI_ltI (by omega) (by omega)) (fun c1 => ?_) (fun c1 => ?_)
  · refine g_iconst (v := 0) g dX0_inWindow_35 (by decide) ?_
    exact ret _ _ _ _ dX0_inWindow_36 (Or.inl rfl) (⟨rfl, by unfold zed; rw [decide_eq_false (by omega)]; rfl⟩)
  refine g_iload_n g dX0_inWindow_10 rfl rfl ?_
  refine g_aload_n g dX0_inWindow_11 rfl rfl ?_
  refine dk_get2 g k dX0_inWindow_12 ?_
  refine g_iload_n g dX0_inWindow_15 rfl rfl ?_
  refine dk_ld2 g k dX0_inWindow_16 (rfl) (hj) ?_
  rw [e2]
  refine g_cmpge (tgt := 35) g dX0_inWindow_17 (by decide) (nI_leI (by omega) (by omega)) (fun c2 => ?_) (fun c2 => ?_)
  · refine g_iconst (v := 0) g dX0_inWindow_35 (by decide) ?_
    exact ret _ _ _ _ dX0_inWindow_36 (Or.inl rfl) (⟨rfl, by unfold zed; rw [decide_eq_false (p := t < _) (by omega), Bool.and_false]; rfl⟩)
  refine g_aload_n g dX0_inWindow_20 rfl rfl ?_
  refine dk_get7 g k dX0_inWindow_21 ?_
  refine g_iload_n g dX0_inWindow_24 rfl rfl ?_
  refine g_ishr g dX0_inWindow_25 ?_
  refine g_iconst (v := 1) g dX0_inWindow_26 (by decide) ?_
  refine g_iand g dX0_inWindow_27 ?_
  refine g_top (b_get (by omega)) ?_
  have e3 : zed σ (u.1 7) j t = !bt (u.1 7) t := by
    unfold zed
    rw [decide_eq_true (show σ.2.1 1 j ≤ t by omega), decide_eq_true (show t < σ.2.1 2 j by omega)]; rfl
  refine g_ifne (tgt := 35) g dX0_inWindow_28 (by decide) (bI_0) (fun c3 => ?_) (fun c3 => ?_)
  · refine g_iconst (v := 0) g dX0_inWindow_35 (by decide) ?_
    exact ret _ _ _ _ dX0_inWindow_36 (Or.inl rfl) (⟨rfl, by rw [e3, eq_true_of_ne_false c3]; rfl⟩)
  · refine g_iconst (v := 1) g dX0_inWindow_31 (by decide) ?_
    refine g_goto (tgt := 36) g dX0_inWindow_32 (by decide) ?_
    exact ret _ _ _ _ dX0_inWindow_36 (Or.inr rfl) (⟨rfl, by rw [e3, c3]; rfl⟩)
end
section
/-! Desk.look: a free unit, or all owners of the window reached -/
set_option maxHeartbeats 1000000 in
theorem met_look (l : Launch) {σ : zT} {u : dS} {o : Nat → Nat} {r : Nat} {L gg wb : Nat → Nat} {R : Nat → Bool} {n k0 : Nat} (hs : zOk σ) (hu : zA σ u) (ho : zO u o) (hB : zB (zed σ (u.1 7)) o r L gg wb R n) (hL : zLk u r L gg wb R n) (hk : k0 < n) : gMi dkC l yX0_look cX0_look 4 (some .int) (gR 1 22) [.int (nI (L k0))] u (fun r' u' => dFr [9, 11] [10, 12, 13] u u' ∧ ∃ (L' gg' wb' : Nat → Nat) (R' : Nat → Bool) (n' : Nat), zB (zed σ (u.1 7)) o r L' gg' wb' R' n' ∧ zLk u' r L' gg' wb' R' n' ∧ n ≤ n' ∧ (∀ q, q < n → L' q = L q) ∧ (∀ i, R i = true → R' i = true) ∧ ((∃ t, t < 24 ∧ r' = nI t ∧ zed σ (u.1 7) (L k0) t = true ∧ ¬ o t < 6) ∨ (r' = -1 ∧ ∀ t, t < 24 → zed σ (u.1 7) (L k0) t = true → o t < 6 ∧ R' (o t) = true))) := by
  refine gMi_of (by decide +kernel) (Nat.le_of_ble_eq_true rfl) cat1 ?_
  intro E a g k ret
  have hj : L k0 < 6 := (hB.2.2.2.1 k0 hk).1
  have hb := hs (L k0) hj
  refine g_loc (lv' := [some (.ref (a 0)), some (.int (nI (L k0))), none, none]) rfl ?_
  refine g_aload_n g dX0_look_0 rfl rfl ?_
  refine dk_get1 g k dX0_look_1 ?_
  refine g_iload_n g dX0_look_4 rfl rfl ?_
  refine dk_ld1 g k dX0_look_5 (rfl) (hj) ?_
  rw [hu.1 1 (by omega) (by omega) _ hj]
  refine g_istore_n g dX0_look_6 rfl (Nat.le_of_ble_eq_true rfl) ?_
  have loop : ∀ i, i ≤ 24 → ∀ (u1 : dS) (L1 g1 wb1 : Nat → Nat) (R1 : Nat → Bool) (n1 : Nat), dFr [9, 11] [10, 12, 13] u u1 → zB (zed σ (u.1 7)) o r L1 g1 wb1 R1 n1 → zLk u1 r L1 g1 wb1 R1 n1 → n ≤ n1 → (∀ q, q < n → L1 q = L q) → (∀ i, R i = true → R1 i = true) → (∀ t, t < i → zed σ (u.1 7) (L k0) t = true → o t < 6 ∧ R1 (o t) = true) → gG E 7 [some (.ref (a 0)), some (.int (nI (L k0))), some (.int (nI i)), none] [] u1 := by
    refine zdown 24 (fun i hi ih u1 L1 g1 wb1 R1 n1 hf hB1 hL1 hn hLq hR hp => ?_)
    have hu1 : zA σ u1 := hu.fr hf (by decide) (by decide)
    have e2 := hu1.1 2 (by omega) (by omega) _ hj
    have e7 : u1.1 7 = u.1 7 := hf.1 7 (by decide)
    have e8 : u1.2 8 = u.2 8 := hf.2 8 (by decide)
    refine g_iload_n g dX0_look_7 rfl rfl ?_
    refine g_aload_n g dX0_look_8 rfl rfl ?_
    refine dk_get2 g k dX0_look_9 ?_
    refine g_iload_n g dX0_look_12 rfl rfl ?_
    refine dk_ld2 g k dX0_look_13 (rfl) (hj) ?_
    rw [e2]
    refine g_cmpge (tgt := 106) g dX0_look_14 (by decide) (nI_leI (by omega) (by omega)) (fun c => ?_) (fun c => ?_)
    · refine g_iconst (v := (-1)) g dX0_look_106 (by decide) ?_
      exact ret _ _ _ _ dX0_look_107 (⟨hf, L1, g1, wb1, R1, n1, hB1, hL1, hn, hLq, hR, Or.inr ⟨rfl, fun t ht he => hp t (by unfold zed at he; simp at he; omega) he⟩⟩)
    have hi24 : i < 24 := by omega
    refine g_aload_n g dX0_look_17 rfl rfl ?_
    refine g_iload_n g dX0_look_18 rfl rfl ?_
    refine g_iload_n g dX0_look_19 rfl rfl ?_
    refine dk_call_inWindow g k dX0_look_20 (met_inWindow l hs hu1 hj hi24) (by decide) (Nat.le_of_ble_eq_true rfl) (fun r1 u2 ⟨hu2, hr1⟩ => ?_)
    rw [hu2, hr1, e7]
    refine g_ifeq (tgt := 100) g dX0_look_23 (by decide) (bI_0) (fun c2 => ?_) (fun c2 => ?_)
    · refine g_iinc g dX0_look_100 rfl (n_inc _) ?_
      refine g_goto (tgt := 7) g dX0_look_103 (by decide) ?_
      refine ih hi24 u1 L1 g1 wb1 R1 n1 hf hB1 hL1 hn hLq hR (fun t ht he => ?_)
      by_cases hti : t = i
      · subst hti; rw [c2] at he; cases he
      · exact hp t (by omega) he
    have hed : zed σ (u.1 7) (L k0) i = true := eq_true_of_ne_false c2
    refine g_aload_n g dX0_look_26 rfl rfl ?_
    refine dk_get8 g k dX0_look_27 ?_
    refine g_iload_n g dX0_look_30 rfl rfl ?_
    refine dk_ld8 g k dX0_look_31 (rfl) (hi24) ?_
    rw [e8, ho i hi24]
    refine g_istore_n g dX0_look_32 rfl (Nat.le_of_ble_eq_true rfl) ?_
    refine g_iload_n g dX0_look_33 rfl rfl ?_
    refine g_iconst (v := (-1)) g dX0_look_34 (by decide) ?_
    refine g_cmpne (tgt := 40) g dX0_look_35 (by decide) (zen_m1) (fun c3 => ?_) (fun c3 => ?_)
    · have ho6 : o i < 6 := Classical.byContradiction c3
      rw [zen_lt ho6]
      refine g_aload_n g dX0_look_40 rfl rfl ?_
      refine dk_get9 g k dX0_look_41 ?_
      refine g_iload_n g dX0_look_44 rfl rfl ?_
      refine g_ishr g dX0_look_45 ?_
      refine g_iconst (v := 1) g dX0_look_46 (by decide) ?_
      refine g_iand g dX0_look_47 ?_
      refine g_top (b_get (by omega)) ?_
      rw [hL1.2.1 _ ho6]
      refine g_ifne (tgt := 100) g dX0_look_48 (by decide) (bI_0) (fun c4 => ?_) (fun c4 => ?_)
      · refine g_iinc g dX0_look_100 rfl (n_inc _) ?_
        refine g_goto (tgt := 7) g dX0_look_103 (by decide) ?_
        refine g_forget 3 ?_
        refine ih hi24 u1 L1 g1 wb1 R1 n1 hf hB1 hL1 hn hLq hR (fun t ht he => ?_)
        by_cases hti : t = i
        · subst hti; exact ⟨ho6, eq_true_of_ne_false c4⟩
        · exact hp t (by omega) he
      have hLk : L1 k0 = L k0 := hLq k0 hk
      have hn6 : n1 < 6 := zB_lt hB1 ho6 c4
      have hxr : o i ≠ r := fun q => by
        have := (hB1.2.2.2.1 0 (by omega)).2
        rw [hB1.2.2.1, ← q, c4] at this
        cases this
      refine g_aload_n g dX0_look_51 rfl rfl ?_
      refine g_dup g dX0_look_52 rfl ?_
      refine dk_get9 g k dX0_look_53 ?_
      refine g_iconst (v := 1) g dX0_look_56 (by decide) ?_
      refine g_iload_n g dX0_look_57 rfl rfl ?_
      refine g_ishl g dX0_look_58 ?_
      refine g_ior g dX0_look_59 ?_
      refine dk_put9 g k dX0_look_60 ?_
      refine g_aload_n g dX0_look_63 rfl rfl ?_
      refine dk_get12 g k dX0_look_64 ?_
      refine g_iload_n g dX0_look_67 rfl rfl ?_
      refine g_iload_n g dX0_look_68 rfl rfl ?_
      refine g_i2b g dX0_look_69 (n_b2 _ (by omega)) ?_
      refine dk_st12 g k dX0_look_70 (rfl) (ho6) (n_nb _ (by omega)) ?_
      refine g_aload_n g dX0_look_71 rfl rfl ?_
      refine dk_get13 g k dX0_look_72 ?_
      refine g_iload_n g dX0_look_75 rfl rfl ?_
      refine g_iload_n g dX0_look_76 rfl rfl ?_
      refine g_i2b g dX0_look_77 (n_b2 _ (by omega)) ?_
      refine dk_st13 g k dX0_look_78 (rfl) (ho6) (n_nb _ (by omega)) ?_
      refine g_aload_n g dX0_look_79 rfl rfl ?_
      refine dk_get10 g k dX0_look_80 ?_
      refine g_aload_n g dX0_look_83 rfl rfl ?_
      refine dk_get11 g k dX0_look_84 ?_
      refine g_iload_n g dX0_look_87 rfl rfl ?_
      refine g_i2b g dX0_look_88 (n_b2 _ (by omega)) ?_
      refine dk_st10 g k dX0_look_89 (by simp only [dF_1, dI_1, if_neg (show ¬ (11 : Nat) = 9 by decide)]; exact hL1.2.2.1) (by omega) (n_nb _ (by omega)) ?_
      refine g_aload_n g dX0_look_90 rfl rfl ?_
      refine g_dup g dX0_look_91 rfl ?_
      refine dk_get11 g k dX0_look_92 ?_
      refine g_iconst (v := 1) g dX0_look_95 (by decide) ?_
      refine g_iadd g dX0_look_96 ?_
      refine g_top (v := nI (n1 + 1)) (by simp only [dF_1, dI_1, if_neg (show ¬ (11 : Nat) = 9 by decide)]; rw [hL1.2.2.1]; exact nI_1 _) ?_
      refine dk_put11 g k dX0_look_97 ?_
      refine g_iinc g dX0_look_100 rfl (n_inc _) ?_
      refine g_goto (tgt := 7) g dX0_look_103 (by decide) ?_
      refine g_forget 3 ?_
      refine ih hi24 _ _ _ _ _ _ ?_ (zB_add hB1 (k := k0) (t := i) (by omega) hi24 rfl ho6 c4 (by rw [hLk]; exact hed)) (zLk_add (k := k0) (t := i) hL1 ho6 hxr ?_ ?_ ?_ ?_ ?_) (by omega) ?_ ?_ ?_
      · exact (((((hf.i (by decide)).f (by decide)).f (by decide)).f (by decide)).i (by decide))
      · intro q; simp [dF_2, dI_1, dI_2, dF_1]
      · intro q hq; simp only [dF_2, dI_1, dI_2, dF_1]; exact b_set (by omega) (by omega)
      · simp [dI_1]
      · intro q; simp [dF_2, dI_1, dI_2, dF_1]
      · intro q; simp [dF_2, dI_1, dI_2, dF_1, hLk]
      · intro q hq; rw [if_neg (by omega)]; exact hLq q hq
      · intro q hq; simp [hR q hq]
      · intro t ht he
        by_cases hti : t = i
        · subst hti; exact ⟨ho6, by simp⟩
        · have := hp t (by omega) he
          exact ⟨this.1, by simp [this.2]⟩
    · refine g_iload_n g dX0_look_38 rfl rfl ?_
      exact ret _ _ _ _ dX0_look_39 (⟨hf, L1, g1, wb1, R1, n1, hB1, hL1, hn, hLq, hR, Or.inl ⟨i, hi24, rfl, hed, c3⟩⟩)
  exact loop _ hb.1 u L gg wb R n dFr.rf hB hL (Nat.le_refl _) (fun _ _ => rfl) (fun _ h => h) (fun t ht he => by unfold zed at he; simp at he; omega)
end
section
/-! Desk.shift, Desk.give -/
set_option maxHeartbeats 1000000 in
theorem met_shift (l : Launch) {e : Nat → Nat → Bool} {u : dS} {o : Nat → Nat} {r : Nat} {L gg wb : Nat → Nat} {R : Nat → Bool} {n k0 t0 : Nat} (ho : zO u o) (hv : zval e o) (hB : zB e o r L gg wb R n) (hL : zLk u r L gg wb R n) (hk : k0 < n) (ht0 : t0 < 24) (he0 : e (L k0) t0 = true) (hf0 : ¬ o t0 < 6) : gMv dkC l yX0_shift cX0_shift 6 (gR 0 0) [.int (nI (L k0)), .int (nI t0)] u (fun u' => dFr [] [8] u u' ∧ ∃ o', zO u' o' ∧ zval e o' ∧ ∀ i, i < 6 → zct o' i = zadd (zct o) r 1 i) := by
  refine gMv_of (by decide +kernel) (Nat.le_of_ble_eq_true rfl) cat2 ?_
  intro E a g k ret
  have hn6 := zB_le hB
  obtain ⟨b1, b2, b3, b4, b5, b6, b7, b8⟩ := hB
  obtain ⟨a1, a2, a3, a4, a5⟩ := hL
  refine g_loc (lv' := [some (.ref (a 0)), some (.int (nI (L k0))), some (.int (nI t0)), none, none, none]) rfl ?_
  refine g_iload_n g dX0_shift_0 rfl rfl ?_
  refine g_istore_n g dX0_shift_1 rfl (Nat.le_of_ble_eq_true rfl) ?_
  refine g_iload_n g dX0_shift_2 rfl rfl ?_
  refine g_istore g dX0_shift_3 (Nat.le_of_ble_eq_true rfl) ?_
  refine g_iconst (v := nI 0) g dX0_shift_5 (by decide) ?_
  refine g_istore g dX0_shift_6 (Nat.le_of_ble_eq_true rfl) ?_
  have loop : ∀ q, q < n → ∀ (k1 t : Nat) (u1 : dS) (o1 : Nat → Nat), k1 + q < 6 → t < 24 → dFr [] [8] u u1 → zO u1 o1 → zval e o1 → e (L q) t = true → (∀ i, i < 6 → zct o1 i = zct o i + (if o1 t = i then 1 else 0)) → (∀ s, s < 24 → ∀ q1, q1 ≤ q → o s = L q1 → o1 s = o s) → (∀ q1, q1 ≤ q → o1 t ≠ L q1) → gG E 8 [some (.ref (a 0)), some (.int (nI (L k0))), some (.int (nI t0)), some (.int (nI (L q))), some (.int (nI t)), some (.int (nI k1))] [] u1 := by
    intro q
    induction q using Nat.strongRecOn with
    | _ q ih =>
    intro hq k1 t u1 o1 hk1 ht hf ho1 hv1 he hc hs hne
    have hq6 := (b4 q hq).1
    refine g_iload g dX0_shift_8 rfl ?_
    refine g_bipush (v := nI 6) g dX0_shift_10 (by decide) ?_
    refine g_cmpge (tgt := 49) g dX0_shift_12 (by decide) (nI_leI (by omega) (by omega)) (fun c => ?_) (fun c => ?_)
    · omega
    refine g_iload_n g dX0_shift_15 rfl rfl ?_
    refine g_iflt (tgt := 49) g dX0_shift_16 (by decide) (n_lt0 (by omega)) (fun c2 => ?_) (fun c2 => ?_)
    · exact c2.elim
    refine g_aload_n g dX0_shift_19 rfl rfl ?_
    refine dk_get8 g k dX0_shift_20 ?_
    refine g_iload g dX0_shift_23 rfl ?_
    refine g_iload_n g dX0_shift_25 rfl rfl ?_
    refine g_i2b g dX0_shift_26 (n_b2 _ (by omega)) ?_
    refine dk_st8 g k dX0_shift_27 (rfl) (ht) (n_nb _ (by omega)) ?_
    refine g_aload_n g dX0_shift_28 rfl rfl ?_
    refine dk_get12 g k dX0_shift_29 ?_
    refine g_iload_n g dX0_shift_32 rfl rfl ?_
    have hv2 : zval e (fun s => if s = t then L q else o1 s) := by
      intro s hs1 hs2
      simp only [] at hs2 ⊢
      by_cases hst : s = t
      · subst hst; simpa using he
      · simp only [hst, if_false] at hs2 ⊢; exact hv1 s hs1 hs2
    have ho2 : zO (dF u1 8 t (nI (L q))) (fun s => if s = t then L q else o1 s) := by
      intro s hs1
      rw [dF_2, if_pos rfl]
      by_cases hst : s = t
      · simp only [hst, if_true]; exact (zen_lt hq6).symm
      · simp only [hst, if_false]; exact ho1 s hs1
    have hc2 : ∀ i, i < 6 → zct (fun s => if s = t then L q else o1 s) i = zct o i + (if L q = i then 1 else 0) := by
      intro i hi
      have h1 := zct_set (o := o1) (j := L q) (i := i) ht (hne q (Nat.le_refl _))
      have h2 := hc i hi
      omega
    have hf2 : dFr [] [8] u (dF u1 8 t (nI (L q))) := hf.f (by decide)
    have e12 : (dF u1 8 t (nI (L q))).2 12 = u.2 12 := hf2.2 12 (by decide)
    have e13 : (dF u1 8 t (nI (L q))).2 13 = u.2 13 := hf2.2 13 (by decide)
    generalize hu2 : dF u1 8 t (nI (L q)) = u2 at ho2 hf2 e12 e13 ⊢
    generalize ho2e : (fun s => if s = t then L q else o1 s) = o2 at ho2 hv2 hc2
    refine dk_ld12 g k dX0_shift_33 (rfl) (hq6) ?_
    rw [e12]
    refine g_istore g dX0_shift_34 (Nat.le_of_ble_eq_true rfl) ?_
    refine g_aload_n g dX0_shift_36 rfl rfl ?_
    refine dk_get13 g k dX0_shift_37 ?_
    refine g_iload_n g dX0_shift_40 rfl rfl ?_
    refine dk_ld13 g k dX0_shift_41 (rfl) (hq6) ?_
    rw [e13]
    refine g_istore_n g dX0_shift_42 rfl (Nat.le_of_ble_eq_true rfl) ?_
    refine g_iinc g dX0_shift_43 rfl (n_inc _) ?_
    refine g_goto (tgt := 8) g dX0_shift_46 (by decide) ?_
    by_cases hq0 : q = 0
    · subst hq0
      rw [b3] at hc2 ⊢
      rw [a5]
      have fin : dFr [] [8] u u2 ∧ ∃ o', zO u2 o' ∧ zval e o' ∧ ∀ i, i < 6 → zct o' i = zadd (zct o) r 1 i := by
        refine ⟨hf2, o2, ho2, hv2, fun i hi => ?_⟩
        rw [hc2 i hi]
        unfold zadd
        by_cases hir : i = r
        · simp [hir]
        · have : ¬ r = i := fun z => hir z.symm
          simp [hir, this]
      refine g_iload g dX0_shift_8 rfl ?_
      refine g_bipush (v := nI 6) g dX0_shift_10 (by decide) ?_
      refine g_cmpge (tgt := 49) g dX0_shift_12 (by decide) (nI_leI (by omega) (by omega)) (fun c3 => ?_) (fun c3 => ?_)
      · exact ret _ _ _ dX0_shift_49 (fin)
      refine g_iload_n g dX0_shift_15 rfl rfl ?_
      refine g_iflt (tgt := 49) g dX0_shift_16 (by decide) (n_m1lt) (fun c4 => ?_) (fun c4 => ?_)
      · exact ret _ _ _ dX0_shift_49 (fin)
      · exact absurd trivial c4
    · obtain ⟨q', d1, d2, d3, d4, d5⟩ := b7 q (by omega) hq
      have hLr : L q ≠ r := fun z => hq0 (b6 q 0 hq (by omega) (by rw [z, b3]))
      obtain ⟨f1, f2⟩ := a4 (L q) hq6 hLr (b4 q hq).2
      rw [f1, f2, d2]
      have hs2 := hs (gg (L q)) d3 q (Nat.le_refl _) d4
      have htt : gg (L q) ≠ t := fun z => hne q (Nat.le_refl _) (by rw [← z, hs2, d4])
      have ho2g : o2 (gg (L q)) = L q := by
        rw [← ho2e]; simp only [htt, if_false]; rw [hs2, d4]
      refine ih q' d1 (by omega) (k1 + 1) (gg (L q)) u2 o2 (by omega) d3 hf2 ho2 hv2 d5 (fun i hi => ?_) (fun s hs1 q1 hq1 hos => ?_) (fun q1 hq1 => ?_)
      · rw [hc2 i hi, ho2g]
      · have hso := hs s hs1 q1 (by omega) hos
        have hst : s ≠ t := fun z => hne q1 (by omega) (by rw [← z, hso, hos])
        rw [← ho2e]; simp only [hst, if_false]; exact hso
      · rw [ho2g]
        intro z
        have := b6 q q1 hq (by omega) z
        omega
  refine loop k0 hk 0 t0 u o (by omega) ht0 dFr.rf ho hv he0 (fun i hi => ?_) (fun s _ q1 _ _ => rfl) (fun q1 hq1 => ?_)
  · rw [if_neg (by omega), Nat.add_zero]
  · have := (b4 q1 (by omega)).1
    omega
set_option maxHeartbeats 1000000 in
theorem met_give (l : Launch) {σ : zT} {u : dS} {o : Nat → Nat} {j : Nat} (hs : zOk σ) (hu : zA σ u) (ho : zO u o) (hv : zval (zed σ (u.1 7)) o) (hj : j < 6) : gMi dkC l yX0_give cX0_give 4 (some .boolean) (gR 2 45) [.int (nI j)] u (fun r u' => dFr [9, 11] [8, 10, 12, 13] u u' ∧ ((r = 1 ∧ ∃ o', zO u' o' ∧ zval (zed σ (u.1 7)) o' ∧ ∀ i, i < 6 → zct o' i = zadd (zct o) j 1 i) ∨ (r = 0 ∧ zO u' o ∧ ¬ zhall (zed σ (u.1 7)) (zadd (zct o) j 1)))) := by
  refine gMz_of (by decide +kernel) (Nat.le_of_ble_eq_true rfl) cat1 ?_
  intro E a g k ret
  refine g_loc (lv' := [some (.ref (a 0)), some (.int (nI j)), none, none]) rfl ?_
  refine g_aload_n g dX0_give_0 rfl rfl ?_
  refine g_iconst (v := 1) g dX0_give_1 (by decide) ?_
  refine g_iload_n g dX0_give_2 rfl rfl ?_
  refine g_ishl g dX0_give_3 ?_
  refine dk_put9 g k dX0_give_4 ?_
  refine g_aload_n g dX0_give_7 rfl rfl ?_
  refine dk_get10 g k dX0_give_8 ?_
  refine g_iconst (v := nI 0) g dX0_give_11 (by decide) ?_
  refine g_iload_n g dX0_give_12 rfl rfl ?_
  refine g_i2b g dX0_give_13 (n_b2 _ (by omega)) ?_
  refine dk_st10 g k dX0_give_14 (rfl) (by decide) (n_nb _ (by omega)) ?_
  refine g_aload_n g dX0_give_15 rfl rfl ?_
  refine g_iconst (v := nI 1) g dX0_give_16 (by decide) ?_
  refine dk_put11 g k dX0_give_17 ?_
  refine g_aload_n g dX0_give_20 rfl rfl ?_
  refine dk_get12 g k dX0_give_21 ?_
  refine g_iload_n g dX0_give_24 rfl rfl ?_
  refine g_iconst (v := (-1)) g dX0_give_25 (by decide) ?_
  refine dk_st12 g k dX0_give_26 (rfl) (hj) (n_nm) ?_
  refine g_aload_n g dX0_give_27 rfl rfl ?_
  refine dk_get13 g k dX0_give_28 ?_
  refine g_iload_n g dX0_give_31 rfl rfl ?_
  refine g_iconst (v := (-1)) g dX0_give_32 (by decide) ?_
  refine dk_st13 g k dX0_give_33 (rfl) (hj) (n_nm) ?_
  refine g_iconst (v := nI 0) g dX0_give_34 (by decide) ?_
  refine g_istore_n g dX0_give_35 rfl (Nat.le_of_ble_eq_true rfl) ?_
  have loop : ∀ i, i ≤ 6 → ∀ (u1 : dS) (L1 g1 wb1 : Nat → Nat) (R1 : Nat → Bool) (n1 : Nat), dFr [9, 11] [10, 12, 13] u u1 → zB (zed σ (u.1 7)) o j L1 g1 wb1 R1 n1 → zLk u1 j L1 g1 wb1 R1 n1 → i ≤ n1 → (∀ q, q < i → ∀ t, t < 24 → zed σ (u.1 7) (L1 q) t = true → o t < 6 ∧ R1 (o t) = true) → gG E 36 [some (.ref (a 0)), some (.int (nI j)), some (.int (nI i)), none] [] u1 := by
    refine zdown 6 (fun i hi ih u1 L1 g1 wb1 R1 n1 hf hB hL hin hp => ?_)
    have hn6 := zB_le hB
    have hu1 : zA σ u1 := hu.fr hf (by decide) (by decide)
    have e7 : u1.1 7 = u.1 7 := hf.1 7 (by decide)
    have e8 : u1.2 8 = u.2 8 := hf.2 8 (by decide)
    have ho1 : zO u1 o := fun t ht => by rw [e8]; exact ho t ht
    have hff : dFr [9, 11] [8, 10, 12, 13] u u1 := hf.up (by decide) (by decide)
    have fail : n1 ≤ i → gG E 84 [some (.ref (a 0)), some (.int (nI j)), some (.int (nI i)), none] [] u1 := by
      intro hni
      refine g_iconst (v := 0) g dX0_give_84 (by decide) ?_
      exact ret _ _ _ _ dX0_give_85 (Or.inl rfl) (⟨hff, Or.inr ⟨rfl, ho1, znot_hall hj (R := R1) (by have := (hB.2.2.2.1 0 hB.2.1).2; rw [hB.2.2.1] at this; exact this) (fun x hx hRx t ht he => by obtain ⟨q, q1, q2⟩ := hB.2.2.2.2.1 x hx hRx; exact hp q (by omega) t ht (by rw [q2]; exact he))⟩⟩)
    refine g_iload_n g dX0_give_36 rfl rfl ?_
    refine g_aload_n g dX0_give_37 rfl rfl ?_
    refine dk_get11 g k dX0_give_38 ?_
    rw [hL.2.2.1]
    refine g_cmpge (tgt := 84) g dX0_give_41 (by decide) (nI_leI (by omega) (by omega)) (fun c1 => ?_) (fun c1 => ?_)
    · exact fail c1
    refine g_iload_n g dX0_give_44 rfl rfl ?_
    refine g_bipush (v := nI 6) g dX0_give_45 (by decide) ?_
    refine g_cmpge (tgt := 84) g dX0_give_47 (by decide) (nI_leI (by omega) (by omega)) (fun c2 => ?_) (fun c2 => ?_)
    · exact fail (by omega)
    have hLi : u1.2 10 i = nI (L1 i) := hL.1 i (by omega)
    refine g_aload_n g dX0_give_50 rfl rfl ?_
    refine g_aload_n g dX0_give_51 rfl rfl ?_
    refine dk_get10 g k dX0_give_52 ?_
    refine g_iload_n g dX0_give_55 rfl rfl ?_
    refine dk_ld10 g k dX0_give_56 (rfl) (by omega) ?_
    rw [hLi]
    refine dk_call_look g k dX0_give_57 (met_look l hs hu1 ho1 (by rw [e7]; exact hB) hL (show i < n1 by omega)) (by decide) (Nat.le_of_ble_eq_true rfl) (fun r1 u2 ⟨hf2, L2, g2, wb2, R2, n2, hB2, hL2, hn2, hLq, hR2, hr⟩ => ?_)
    refine g_istore_n g dX0_give_60 rfl (Nat.le_of_ble_eq_true rfl) ?_
    refine g_iload_n g dX0_give_61 rfl rfl ?_
    rw [e7] at hB2 hr
    have hf3 : dFr [9, 11] [10, 12, 13] u u2 := hf.tr hf2
    have ho2 : zO u2 o := fun t ht => by rw [hf3.2 8 (by decide)]; exact ho t ht
    rcases hr with ⟨t, ht, rfl, het, hot⟩ | ⟨rfl, hall⟩
    · refine g_iflt (tgt := 78) g dX0_give_62 (by decide) (n_lt0 (by omega)) (fun c3 => ?_) (fun c3 => ?_)
      · exact c3.elim
      have hLi2 : u2.2 10 i = nI (L2 i) := hL2.1 i (by omega)
      refine g_aload_n g dX0_give_65 rfl rfl ?_
      refine g_aload_n g dX0_give_66 rfl rfl ?_
      refine dk_get10 g k dX0_give_67 ?_
      refine g_iload_n g dX0_give_70 rfl rfl ?_
      refine dk_ld10 g k dX0_give_71 (rfl) (by omega) ?_
      rw [hLi2]
      refine g_iload_n g dX0_give_72 rfl rfl ?_
      refine dk_call_shift g k dX0_give_73 (met_shift l ho2 hv hB2 hL2 (show i < n2 by omega) ht (by rw [hLq i (by omega)]; exact het) hot) (by decide) (Nat.le_of_ble_eq_true rfl) (fun u3 ⟨hf4, o3, h1, h2, h3⟩ => ?_)
      refine g_iconst (v := 1) g dX0_give_76 (by decide) ?_
      exact ret _ _ _ _ dX0_give_77 (Or.inr rfl) (⟨(hf3.up (by decide) (by decide)).tr (hf4.up (by decide) (by decide)), Or.inl ⟨rfl, o3, h1, h2, h3⟩⟩)
    · refine g_iflt (tgt := 78) g dX0_give_62 (by decide) (n_m1lt) (fun c3 => ?_) (fun c3 => ?_)
      · refine g_iinc g dX0_give_78 rfl (n_inc _) ?_
        refine g_goto (tgt := 36) g dX0_give_81 (by decide) ?_
        refine g_forget 3 ?_
        refine ih (by omega) u2 L2 g2 wb2 R2 n2 hf3 hB2 hL2 (by omega) (fun q hq t ht he => ?_)
        by_cases hqi : q = i
        · subst hqi; rw [hLq q (by omega)] at he; exact hall t ht he
        · rw [hLq q (by omega)] at he
          have := hp q (by omega) t ht he
          exact ⟨this.1, hR2 _ this.2⟩
      · exact absurd trivial c3
  refine loop 0 (by omega) _ (fun _ => j) (fun _ => 0) (fun _ => 0) (fun i => decide (i = j)) 1 ?_ ?_ ?_ (by omega) (fun q hq => absurd hq (by omega))
  · exact ((((dFr.rf.i (by decide)).f (by decide)).i (by decide)).f (by decide)).f (by decide)
  · refine ⟨hj, by omega, rfl, fun q hq => ⟨hj, by simp⟩, fun i hi hR => ⟨0, by omega, by simpa using (of_decide_eq_true hR).symm⟩, fun q q' hq hq' _ => by omega, fun q hq1 hq => absurd hq (by omega), ?_⟩
    have := zs_one j 1 6
    rw [if_pos hj] at this
    rw [← this]
    refine zs_congr (fun i _ => ?_)
    by_cases hi : i = j
    · simp [hi]
    · simp [hi]
  · refine ⟨fun q hq => ?_, fun i hi => ?_, ?_, fun i hi hij hR => ?_, ?_⟩
    · have : q = 0 := by omega
      subst this
      simp [dF_2, dI_2]
    · simp only [dF_1, dI_1]
      simp only [if_neg (show ¬ (9 : Nat) = 11 by decide), if_true]
      exact b_one j (by omega) i (by omega)
    · simp [dF_1, dI_1]
    · exact absurd (of_decide_eq_true hR) hij
    · simp [dF_2]
end
section
/-! Desk.giveMany, giveMusts, possible -/
theorem gMi.mono {C : gC} {l : Launch} {y : MethodName} {b : ByteArray} {L : Nat} {r : Option FieldType} {rm : Room} {As : List Value} {u : dS} {post post' : Int32 → dS → Prop} (h : gMi C l y b L r rm As u post) (hp : ∀ r u', post r u' → post' r u') : gMi C l y b L r rm As u post' := fun D a d sz => MetFree.mono (h D a d sz) (fun _ _ q => q) (fun _ _ _ _ _ _ => trivial) (fun a' s o t _ q => by
  obtain ⟨⟨⟨r, u', e1, e2, e3⟩, e4⟩, e5⟩ := q
  exact ⟨⟨⟨r, u', e1, hp r u' e2, e3⟩, e4⟩, e5⟩)
def zAs (σ : zT) (u : dS) (w : Nat → Nat) : Prop := ∃ o, zO u o ∧ zval (zed σ (u.1 7)) o ∧ ∀ i, i < 6 → zct o i = w i
theorem zAs.hall {σ : zT} {u : dS} {w : Nat → Nat} (h : zAs σ u w) : zhall (zed σ (u.1 7)) w := by
  obtain ⟨o, h1, h2, h3⟩ := h
  exact zhall_mono (fun j hj => by rw [h3 j hj]; exact Nat.le_refl _) (zhall_val h2)
theorem zAs.cg {σ : zT} {u : dS} {w w' : Nat → Nat} (h : zAs σ u w) (hw : ∀ i, i < 6 → w i = w' i) : zAs σ u w' := by
  obtain ⟨o, h1, h2, h3⟩ := h
  exact ⟨o, h1, h2, fun i hi => (h3 i hi).trans (hw i hi)⟩
theorem zAs.zero {σ : zT} {u : dS} (h : ∀ t, t < 24 → u.2 8 t = -1) : zAs σ u (fun _ => 0) := ⟨fun _ => 6, fun t ht => by rw [h t ht]; rfl, fun t _ h6 => absurd h6 (show ¬ (6 : Nat) < 6 by omega), fun i hi => zs_zero (fun t _ => if_neg (show ¬ (6 : Nat) = i by omega))⟩
/-- must of the tasks that are present -/
def zmu (σ : zT) (i : Nat) : Nat := if σ.1 i = true then σ.2.1 3 i else 0
def zfit (σ : zT) : Prop := zhall (zed σ σ.2.2) (zmu σ)
theorem met_giveW (l : Launch) {σ : zT} {u : dS} {w : Nat → Nat} {j : Nat} (hs : zOk σ) (hu : zA σ u) (hw : zAs σ u w) (hj : j < 6) : gMi dkC l yX0_give cX0_give 4 (some .boolean) (gR 2 45) [.int (nI j)] u (fun r u' => dFr [9, 11] [8, 10, 12, 13] u u' ∧ ((r = 1 ∧ zAs σ u' (zadd w j 1)) ∨ (r = 0 ∧ zAs σ u' w ∧ ¬ zhall (zed σ (u.1 7)) (zadd w j 1)))) := by
  obtain ⟨o, h1, h2, h3⟩ := hw
  have hz : ∀ i, i < 6 → zadd (zct o) j 1 i = zadd w j 1 i := fun i hi => by unfold zadd; rw [h3 i hi]
  refine (met_give l hs hu h1 h2 hj).mono ?_
  rintro r u' ⟨hf, h⟩
  refine ⟨hf, ?_⟩
  have e7 : u'.1 7 = u.1 7 := hf.1 7 (by decide)
  rcases h with ⟨hr, o', a1, a2, a3⟩ | ⟨hr, a1, a2⟩
  · exact Or.inl ⟨hr, o', a1, by rw [e7]; exact a2, fun i hi => (a3 i hi).trans (hz i hi)⟩
  · exact Or.inr ⟨hr, ⟨o, a1, by rw [e7]; exact h2, h3⟩, fun q => a2 (zhall_mono (fun i hi => by rw [hz i hi]; exact Nat.le_refl _) q)⟩
theorem met_giveMany (l : Launch) {σ : zT} {u : dS} {w : Nat → Nat} {j n : Nat} (hs : zOk σ) (hu : zA σ u) (hw : zAs σ u w) (hj : 0 < n → j < 6) (hn : n < 128) : gMi dkC l yX0_giveMany cX0_giveMany 4 (some .boolean) (gR 3 68) [.int (nI j), .int (nI n)] u (fun r u' => dFr [9, 11] [8, 10, 12, 13] u u' ∧ ((r = 1 ∧ zAs σ u' (zadd w j n)) ∨ (r = 0 ∧ ¬ zhall (zed σ (u.1 7)) (zadd w j n)))) := by
  refine gMz_of (by decide +kernel) (Nat.le_of_ble_eq_true rfl) cat2 ?_
  intro E a g k ret
  refine g_loc (lv' := [some (.ref (a 0)), some (.int (nI j)), some (.int (nI n)), none]) rfl ?_
  refine g_iconst (v := nI 0) g dX0_giveMany_0 (by decide) ?_
  refine g_istore_n g dX0_giveMany_1 rfl (Nat.le_of_ble_eq_true rfl) ?_
  have loop : ∀ i, i ≤ n → ∀ u1 : dS, dFr [9, 11] [8, 10, 12, 13] u u1 → zAs σ u1 (zadd w j i) → gG E 2 [some (.ref (a 0)), some (.int (nI j)), some (.int (nI n)), some (.int (nI i))] [] u1 := by
    refine zdown n (fun i hi ih u1 hf hw1 => ?_)
    have e7 : u1.1 7 = u.1 7 := hf.1 7 (by decide)
    refine g_iload_n g dX0_giveMany_2 rfl rfl ?_
    refine g_iload_n g dX0_giveMany_3 rfl rfl ?_
    refine g_cmpge (tgt := 23) g dX0_giveMany_4 (by decide) (nI_leI (by omega) (by omega)) (fun c => ?_) (fun c => ?_)
    · have : i = n := by omega
      subst this
      refine g_iconst (v := 1) g dX0_giveMany_23 (by decide) ?_
      exact ret _ _ _ _ dX0_giveMany_24 (Or.inr rfl) (⟨hf, Or.inl ⟨rfl, hw1⟩⟩)
    refine g_aload_n g dX0_giveMany_7 rfl rfl ?_
    refine g_iload_n g dX0_giveMany_8 rfl rfl ?_
    refine dk_call_give g k dX0_giveMany_9 (met_giveW l hs (hu.fr hf (by decide) (by decide)) hw1 (hj (by omega))) (by decide) (Nat.le_of_ble_eq_true rfl) (fun r u2 ⟨hf2, h⟩ => ?_)
    have hz : ∀ q, q < 6 → zadd (zadd w j i) j 1 q = zadd w j (i + 1) q := fun q hq => by unfold zadd; split <;> simp_all <;> omega
    rcases h with ⟨rfl, h⟩ | ⟨rfl, -, h⟩
    · refine g_ifne (tgt := 17) g dX0_giveMany_12 (by decide) (Iff.rfl) (fun c2 => ?_) (fun c2 => ?_)
      · refine g_iinc g dX0_giveMany_17 rfl (n_inc _) ?_
        refine g_goto (tgt := 2) g dX0_giveMany_20 (by decide) ?_
        exact ih (by omega) u2 (hf.tr hf2) (h.cg hz)
      · exact absurd c2 (by decide)
    · refine g_ifne (tgt := 17) g dX0_giveMany_12 (by decide) (Iff.rfl) (fun c2 => ?_) (fun c2 => ?_)
      · exact absurd rfl c2
      · refine g_iconst (v := 0) g dX0_giveMany_15 (by decide) ?_
        exact ret _ _ _ _ dX0_giveMany_16 (Or.inl rfl) (⟨hf.tr hf2, Or.inr ⟨rfl, fun q => h (zhall_mono (fun i' hi' => by rw [hz i' hi']; unfold zadd; split <;> omega) (e7 ▸ q))⟩⟩)
  exact loop 0 (by omega) u dFr.rf (hw.cg (fun i _ => by unfold zadd; split <;> omega))
theorem met_giveMusts (l : Launch) {σ : zT} {u : dS} (hs : zOk σ) (hu : zD σ u) (hw : zAs σ u (fun _ => 0)) : gMi dkC l yX0_giveMusts cX0_giveMusts 2 (some .boolean) (gR 4 91) [] u (fun r u' => dFr [9, 11] [8, 10, 12, 13] u u' ∧ ((r = 1 ∧ zAs σ u' (zmu σ)) ∨ (r = 0 ∧ ¬ zhall (zed σ (u.1 7)) (zmu σ)))) := by
  refine gMz_of (by decide +kernel) (Nat.le_of_ble_eq_true rfl) cat0 ?_
  intro E a g k ret
  refine g_loc (lv' := [some (.ref (a 0)), none]) rfl ?_
  refine g_iconst (v := nI 0) g dX0_giveMusts_0 (by decide) ?_
  refine g_istore_n g dX0_giveMusts_1 rfl (Nat.le_of_ble_eq_true rfl) ?_
  have loop : ∀ i, i ≤ 6 → ∀ u1 : dS, dFr [9, 11] [8, 10, 12, 13] u u1 → zAs σ u1 (fun q => if q < i then zmu σ q else 0) → gG E 2 [some (.ref (a 0)), some (.int (nI i))] [] u1 := by
    refine zdown 6 (fun i hi ih u1 hf hw1 => ?_)
    have e7 : u1.1 7 = u.1 7 := hf.1 7 (by decide)
    have hu1 : zD σ u1 := hu.fr hf (by decide) (by decide)
    refine g_iload_n g dX0_giveMusts_2 rfl rfl ?_
    refine g_bipush (v := nI 6) g dX0_giveMusts_3 (by decide) ?_
    refine g_cmpge (tgt := 38) g dX0_giveMusts_5 (by decide) (nI_leI (by omega) (by omega)) (fun c => ?_) (fun c => ?_)
    · refine g_iconst (v := 1) g dX0_giveMusts_38 (by decide) ?_
      exact ret _ _ _ _ dX0_giveMusts_39 (Or.inr rfl) (⟨hf, Or.inl ⟨rfl, hw1.cg (fun q hq => if_pos (by omega))⟩⟩)
    have hi6 : i < 6 := by omega
    refine g_aload_n g dX0_giveMusts_8 rfl rfl ?_
    refine g_iload_n g dX0_giveMusts_9 rfl rfl ?_
    refine dk_call_has g k dX0_giveMusts_10 (met_has l hu1 (nI i)) (by decide) (Nat.le_of_ble_eq_true rfl) (fun r u2 ⟨hu2, hr⟩ => ?_)
    rw [zh_in hi6] at hr
    subst hu2 hr
    refine g_ifeq (tgt := 32) g dX0_giveMusts_13 (by decide) (bI_0) (fun c2 => ?_) (fun c2 => ?_)
    · refine g_iinc g dX0_giveMusts_32 rfl (n_inc _) ?_
      refine g_goto (tgt := 2) g dX0_giveMusts_35 (by decide) ?_
      refine ih (by omega) _ hf (hw1.cg (fun q hq => ?_))
      by_cases hqi : q = i
      · subst hqi; simp [zmu, c2]
      · simp only [show (q < i + 1) ↔ (q < i) by omega]
    have hth : σ.1 i = true := eq_true_of_ne_false c2
    have hb := hs i hi6
    refine g_aload_n g dX0_giveMusts_16 rfl rfl ?_
    refine g_iload_n g dX0_giveMusts_17 rfl rfl ?_
    refine g_aload_n g dX0_giveMusts_18 rfl rfl ?_
    refine dk_get3 g k dX0_giveMusts_19 ?_
    refine g_iload_n g dX0_giveMusts_22 rfl rfl ?_
    refine dk_ld3 g k dX0_giveMusts_23 (rfl) (hi6) ?_
    rw [hu1.1.1 3 (by omega) (by omega) i hi6]
    have hz : ∀ q, q < 6 → zadd (fun q => if q < i then zmu σ q else 0) i (σ.2.1 3 i) q = if q < i + 1 then zmu σ q else 0 := fun q hq => by
      unfold zadd
      by_cases hqi : q = i
      · subst hqi; simp [zmu, hth]
      · simp only [hqi, if_false, show (q < i + 1) ↔ (q < i) by omega]
    refine dk_call_giveMany g k dX0_giveMusts_24 (met_giveMany l hs hu1.1 hw1 (fun _ => hi6) (by omega)) (by decide) (Nat.le_of_ble_eq_true rfl) (fun r u3 ⟨hf2, h⟩ => ?_)
    rcases h with ⟨rfl, h⟩ | ⟨rfl, h⟩
    · refine g_ifne (tgt := 32) g dX0_giveMusts_27 (by decide) (Iff.rfl) (fun c3 => ?_) (fun c3 => ?_)
      · refine g_iinc g dX0_giveMusts_32 rfl (n_inc _) ?_
        refine g_goto (tgt := 2) g dX0_giveMusts_35 (by decide) ?_
        exact ih (by omega) _ (hf.tr hf2) (h.cg hz)
      · exact absurd c3 (by decide)
    · refine g_ifne (tgt := 32) g dX0_giveMusts_27 (by decide) (Iff.rfl) (fun c3 => ?_) (fun c3 => ?_)
      · exact absurd rfl c3
      · refine g_iconst (v := 0) g dX0_giveMusts_30 (by decide) ?_
        exact ret _ _ _ _ dX0_giveMusts_31 (Or.inl rfl) (⟨hf.tr hf2, Or.inr ⟨rfl, fun q => h (zhall_mono (fun i' hi' => by rw [hz i' hi']; split <;> omega) (e7 ▸ q))⟩⟩)
  exact loop 0 (by omega) u dFr.rf (hw.cg (fun i _ => by simp))
theorem met_possible (l : Launch) {σ : zT} {u : dS} (hs : zOk σ) (hu : zD σ u) : gMi dkC l yX0_possible cX0_possible 1 (some .boolean) (gR 5 112) [] u (fun r u' => dFr [7, 9, 11] [8, 10, 12, 13] u u' ∧ ((r = 1 ∧ zfit σ) ∨ (r = 0 ∧ ¬ zfit σ))) := by
  refine gMz_of (by decide +kernel) (Nat.le_of_ble_eq_true rfl) cat0 ?_
  intro E a g k ret
  refine g_loc (lv' := [some (.ref (a 0))]) rfl ?_
  refine g_aload_n g dX0_possible_0 rfl rfl ?_
  refine g_aload_n g dX0_possible_1 rfl rfl ?_
  refine dk_get6 g k dX0_possible_2 ?_
  refine dk_call_begin g k dX0_possible_5 (met_begin l u _) (by decide) (Nat.le_of_ble_eq_true rfl) (fun u1 ⟨hf, h7, h8⟩ => ?_)
  have hu1 : zD σ u1 := hu.fr hf (by decide) (by decide)
  rw [hu.1.2] at h7
  refine g_aload_n g dX0_possible_8 rfl rfl ?_
  refine dk_call_giveMusts g k dX0_possible_9 (met_giveMusts l hs hu1 (zAs.zero h8)) (by decide) (Nat.le_of_ble_eq_true rfl) (fun r u2 ⟨hf2, h⟩ => ?_)
  rw [h7] at h
  have hff : dFr [7, 9, 11] [8, 10, 12, 13] u u2 := (hf.up (by decide) (by decide)).tr (hf2.up (by decide) (by decide))
  rcases h with ⟨rfl, h⟩ | ⟨rfl, h⟩
  · exact ret _ _ _ _ dX0_possible_12 (Or.inr rfl) (⟨hff, Or.inl ⟨rfl, by have := h.hall; rw [hf2.1 7 (by decide), h7] at this; exact this⟩⟩)
  · exact ret _ _ _ _ dX0_possible_12 (Or.inl rfl) (⟨hff, Or.inr ⟨rfl, h⟩⟩)
end
section
/-! Desk.nextInOrder, leastLossWith -/
theorem met_nextInOrder (l : Launch) {σ : zT} {u : dS} (hs : zOk σ) (hu : zD σ u) (dn : Int32) : gMi dkC l yX0_nextInOrder cX0_nextInOrder 4 (some .int) (gR 1 21) [.int dn] u (fun r u' => u' = u ∧ ((r = -1 ∧ ∀ j, j < 6 → σ.1 j = true → bt dn j = true) ∨ ∃ b, b < 6 ∧ r = nI b ∧ σ.1 b = true ∧ bt dn b = false ∧ ∀ j, j < 6 → σ.1 j = true → bt dn j = false → j = b ∨ zbf σ b j)) := by
  refine gMi_of (by decide +kernel) (Nat.le_of_ble_eq_true rfl) cat1 ?_
  intro E a g k ret
  refine g_loc (lv' := [some (.ref (a 0)), some (.int dn), none, none]) rfl ?_
  refine g_iconst (v := (-1)) g dX0_nextInOrder_0 (by decide) ?_
  refine g_istore_n g dX0_nextInOrder_1 rfl (Nat.le_of_ble_eq_true rfl) ?_
  refine g_iconst (v := nI 0) g dX0_nextInOrder_2 (by decide) ?_
  refine g_istore_n g dX0_nextInOrder_3 rfl (Nat.le_of_ble_eq_true rfl) ?_
  have loop : ∀ i, i ≤ 6 → ∀ B : Int32, ((B = -1 ∧ ∀ j, j < i → σ.1 j = true → bt dn j = true) ∨ ∃ b, b < i ∧ B = nI b ∧ σ.1 b = true ∧ bt dn b = false ∧ ∀ j, j < i → σ.1 j = true → bt dn j = false → j = b ∨ zbf σ b j) → gG E 4 [some (.ref (a 0)), some (.int dn), some (.int B), some (.int (nI i))] [] u := by
    refine zdown 6 (fun i hi ih B hB => ?_)
    refine g_iload_n g dX0_nextInOrder_4 rfl rfl ?_
    refine g_bipush (v := nI 6) g dX0_nextInOrder_5 (by decide) ?_
    refine g_cmpge (tgt := 53) g dX0_nextInOrder_7 (by decide) (nI_leI (by omega) (by omega)) (fun c => ?_) (fun c => ?_)
    · have : i = 6 := by omega
      subst this
      refine g_iload_n g dX0_nextInOrder_53 rfl rfl ?_
      exact ret _ _ _ _ dX0_nextInOrder_54 (⟨rfl, hB⟩)
    have hi6 : i < 6 := by omega
    have nx : ∀ B : Int32, ((B = -1 ∧ ∀ j, j < i + 1 → σ.1 j = true → bt dn j = true) ∨ ∃ b, b < i + 1 ∧ B = nI b ∧ σ.1 b = true ∧ bt dn b = false ∧ ∀ j, j < i + 1 → σ.1 j = true → bt dn j = false → j = b ∨ zbf σ b j) → gG E 47 [some (.ref (a 0)), some (.int dn), some (.int B), some (.int (nI i))] [] u := by
      intro B hB
      refine g_iinc g dX0_nextInOrder_47 rfl (n_inc _) ?_
      refine g_goto (tgt := 4) g dX0_nextInOrder_50 (by decide) ?_
      exact ih (by omega) B hB
    have skip : (σ.1 i = false ∨ bt dn i = true) → gG E 47 [some (.ref (a 0)), some (.int dn), some (.int B), some (.int (nI i))] [] u := by
      intro hsk
      refine nx B ?_
      rcases hB with ⟨h1, h2⟩ | ⟨b, h1, h2, h3, h4, h5⟩
      · refine Or.inl ⟨h1, fun j hj hs => ?_⟩
        by_cases hji : j = i
        · subst hji
          rcases hsk with z | z
          · rw [hs] at z; cases z
          · exact z
        · exact h2 j (by omega) hs
      · refine Or.inr ⟨b, by omega, h2, h3, h4, fun j hj hs hd => ?_⟩
        by_cases hji : j = i
        · subst hji
          rcases hsk with z | z
          · rw [hs] at z; cases z
          · rw [hd] at z; cases z
        · exact h5 j (by omega) hs hd
    refine g_aload_n g dX0_nextInOrder_10 rfl rfl ?_
    refine g_iload_n g dX0_nextInOrder_11 rfl rfl ?_
    refine dk_call_has g k dX0_nextInOrder_12 (met_has l hu (nI i)) (by decide) (Nat.le_of_ble_eq_true rfl) (fun r u2 ⟨hu2, hr⟩ => ?_)
    rw [zh_in hi6] at hr
    subst hu2 hr
    refine g_ifeq (tgt := 47) g dX0_nextInOrder_15 (by decide) (bI_0) (fun c2 => ?_) (fun c2 => ?_)
    · exact skip (Or.inl c2)
    have hth : σ.1 i = true := eq_true_of_ne_false c2
    refine g_iload_n g dX0_nextInOrder_18 rfl rfl ?_
    refine g_iload_n g dX0_nextInOrder_19 rfl rfl ?_
    refine g_ishr g dX0_nextInOrder_20 ?_
    refine g_iconst (v := 1) g dX0_nextInOrder_21 (by decide) ?_
    refine g_iand g dX0_nextInOrder_22 ?_
    refine g_top (b_get (by omega)) ?_
    refine g_ifne (tgt := 47) g dX0_nextInOrder_23 (by decide) (bI_0) (fun c3 => ?_) (fun c3 => ?_)
    · exact skip (Or.inr (eq_true_of_ne_false c3))
    rcases hB with ⟨rfl, h2⟩ | ⟨b, h1, rfl, h3, h4, h5⟩
    · refine g_iload_n g dX0_nextInOrder_26 rfl rfl ?_
      refine g_iflt (tgt := 45) g dX0_nextInOrder_27 (by decide) (n_m1lt) (fun c4 => ?_) (fun c4 => ?_)
      · refine g_iload_n g dX0_nextInOrder_45 rfl rfl ?_
        refine g_istore_n g dX0_nextInOrder_46 rfl (Nat.le_of_ble_eq_true rfl) ?_
        refine nx _ (Or.inr ⟨i, by omega, rfl, hth, c3, fun j hj hs hd => ?_⟩)
        by_cases hji : j = i
        · exact Or.inl hji
        · rw [h2 j (by omega) hs] at hd; cases hd
      · exact absurd trivial c4
    · refine g_iload_n g dX0_nextInOrder_26 rfl rfl ?_
      refine g_iflt (tgt := 45) g dX0_nextInOrder_27 (by decide) (n_lt0 (by omega)) (fun c4 => ?_) (fun c4 => ?_)
      · exact c4.elim
      have hb1 := hs i hi6
      have hb2 := hs b (by omega)
      refine g_aload_n g dX0_nextInOrder_30 rfl rfl ?_
      refine dk_get5 g k dX0_nextInOrder_31 ?_
      refine g_iload_n g dX0_nextInOrder_34 rfl rfl ?_
      refine dk_ld5 g k dX0_nextInOrder_35 (rfl) (hi6) ?_
      rw [hu.1.1 5 (by omega) (by omega) i hi6]
      refine g_aload_n g dX0_nextInOrder_36 rfl rfl ?_
      refine dk_get5 g k dX0_nextInOrder_37 ?_
      refine g_iload_n g dX0_nextInOrder_40 rfl rfl ?_
      refine dk_ld5 g k dX0_nextInOrder_41 (rfl) (by omega) ?_
      rw [hu.1.1 5 (by omega) (by omega) b (by omega)]
      refine g_cmple (tgt := 47) g dX0_nextInOrder_42 (by decide) (nI_leI (by omega) (by omega)) (fun c5 => ?_) (fun c5 => ?_)
      · refine nx _ (Or.inr ⟨b, by omega, rfl, h3, h4, fun j hj hs hd => ?_⟩)
        by_cases hji : j = i
        · subst hji
          refine Or.inr ?_
          unfold zbf
          omega
        · exact h5 j (by omega) hs hd
      · refine g_iload_n g dX0_nextInOrder_45 rfl rfl ?_
        refine g_istore_n g dX0_nextInOrder_46 rfl (Nat.le_of_ble_eq_true rfl) ?_
        refine nx _ (Or.inr ⟨i, by omega, rfl, hth, c3, fun j hj hs hd => ?_⟩)
        by_cases hji : j = i
        · exact Or.inl hji
        · refine Or.inr ?_
          rcases h5 j (by omega) hs hd with z | z
          · subst z; exact Or.inl (by omega)
          · unfold zbf at z ⊢
            omega
  exact loop 0 (by omega) _ (Or.inl ⟨rfl, fun j hj => absurd hj (by omega)⟩)
theorem n_ldec (a b : Nat) (h : b ≤ a) (s w : Nat) : nI s + nI w * (nI a - nI b) = nI (s + w * (a - b)) := by
  rw [pk_sub h, pk_mul, nI_add]
set_option maxHeartbeats 1000000 in
theorem met_leastLossWith (l : Launch) {σ : zT} {u : dS} {od : Nat → Nat} {m0 : Nat} (hs : zOk σ) (hu : zD σ u) (hO : zOrd σ od m0) (sh : Int32) : gMi dkC l yX0_leastLossWith cX0_leastLossWith 7 (some .int) (gR 5 112) [.int sh] u (fun r u' => dFr [7, 9, 11] [8, 10, 12, 13, 16] u u' ∧ ((r = -1 ∧ ¬ zhall (zed σ sh) (zmu σ)) ∨ ∃ K, zGr (zed σ sh) (zmu σ) (σ.2.1 4) od m0 K ∧ (∀ j, j < 6 → σ.1 j = true → u'.2 16 j = nI (K j)) ∧ r = nI (zlost σ K))) := by
  refine gMi_of (by decide +kernel) (Nat.le_of_ble_eq_true rfl) cat1 ?_
  intro E a g k ret
  refine g_loc (lv' := [some (.ref (a 0)), some (.int sh), none, none, none, none, none]) rfl ?_
  refine g_aload_n g dX0_leastLossWith_0 rfl rfl ?_
  refine g_iload_n g dX0_leastLossWith_1 rfl rfl ?_
  refine dk_call_begin g k dX0_leastLossWith_2 (met_begin l u sh) (by decide) (Nat.le_of_ble_eq_true rfl) (fun u1 ⟨hf1, h7, h8⟩ => ?_)
  have hu1 : zD σ u1 := hu.fr hf1 (by decide) (by decide)
  have hF1 : dFr [7, 9, 11] [8, 10, 12, 13, 16] u u1 := hf1.up (by decide) (by decide)
  refine g_aload_n g dX0_leastLossWith_5 rfl rfl ?_
  refine dk_call_giveMusts g k dX0_leastLossWith_6 (met_giveMusts l hs hu1 (zAs.zero h8)) (by decide) (Nat.le_of_ble_eq_true rfl) (fun r u2 ⟨hf2, h⟩ => ?_)
  have hF2 : dFr [7, 9, 11] [8, 10, 12, 13, 16] u u2 := hF1.tr (hf2.up (by decide) (by decide))
  have h72 : u2.1 7 = sh := (hf2.1 7 (by decide)).trans h7
  rw [h7] at h
  rcases h with ⟨rfl, hA⟩ | ⟨rfl, h⟩
  rotate_left
  · refine g_ifne (tgt := 14) g dX0_leastLossWith_9 (by decide) (Iff.rfl) (fun c => ?_) (fun c => ?_)
    · exact absurd rfl c
    · refine g_iconst (v := (-1)) g dX0_leastLossWith_12 (by decide) ?_
      exact ret _ _ _ _ dX0_leastLossWith_13 (⟨hF2, Or.inl ⟨rfl, h⟩⟩)
  refine g_ifne (tgt := 14) g dX0_leastLossWith_9 (by decide) (Iff.rfl) (fun c => ?_) (fun c => ?_)
  rotate_left
  · exact absurd c (by decide)
  refine g_iconst (v := nI 0) g dX0_leastLossWith_14 (by decide) ?_
  refine g_istore_n g dX0_leastLossWith_15 rfl (Nat.le_of_ble_eq_true rfl) ?_
  refine g_iconst (v := nI 0) g dX0_leastLossWith_16 (by decide) ?_
  refine g_istore_n g dX0_leastLossWith_17 rfl (Nat.le_of_ble_eq_true rfl) ?_
  refine g_iconst (v := nI 0) g dX0_leastLossWith_18 (by decide) ?_
  refine g_istore g dX0_leastLossWith_19 (Nat.le_of_ble_eq_true rfl) ?_
  have hinj := hO.inj
  have loop : ∀ i, i ≤ 6 → ∀ (u3 : dS) (K : Nat → Nat) (S Dn : Int32) (m : Nat), m = min i m0 → dFr [7, 9, 11] [8, 10, 12, 13, 16] u u3 → u3.1 7 = sh → zAs σ u3 (zpv (zmu σ) od K m) → zGk (zed σ sh) (zmu σ) (σ.2.1 4) od m K → (∀ q, q < m → u3.2 16 (od q) = nI (K (od q))) → (∀ j, j < 6 → bt Dn j = zin od m j) → S = nI (zs (fun q => σ.2.1 5 (od q) * (σ.2.1 4 (od q) - K (od q))) m) → gG E 21 [some (.ref (a 0)), some (.int sh), some (.int S), some (.int Dn), some (.int (nI i)), none, none] [] u3 := by
    refine zdown 6 (fun i hi ih u3 K S Dn m hm hF h73 hA hG hK hD hS => ?_)
    have hu3 : zD σ u3 := hu.fr hF (by decide) (by decide)
    have hm0 := hO.1
    refine g_iload g dX0_leastLossWith_21 rfl ?_
    refine g_bipush (v := nI 6) g dX0_leastLossWith_23 (by decide) ?_
    refine g_cmpge (tgt := 114) g dX0_leastLossWith_25 (by decide) (nI_leI (by omega) (by omega)) (fun c1 => ?_) (fun c1 => ?_)
    · have hmm : m = m0 := by omega
      subst hmm
      refine g_iload_n g dX0_leastLossWith_114 rfl rfl ?_
      exact ret _ _ _ _ dX0_leastLossWith_115 (⟨hF, Or.inr ⟨K, ⟨by have := hA.hall; rw [h73] at this; exact this, hG⟩, fun j hj hth => by obtain ⟨q, q1, q2⟩ := hO.2.2.1 j hj hth; rw [← q2]; exact hK q q1, by rw [hS, zlost_od hO]⟩⟩)
    refine g_aload_n g dX0_leastLossWith_28 rfl rfl ?_
    refine g_iload_n g dX0_leastLossWith_29 rfl rfl ?_
    refine dk_call_nextInOrder g k dX0_leastLossWith_30 (met_nextInOrder l hs hu3 Dn) (by decide) (Nat.le_of_ble_eq_true rfl) (fun r u4 ⟨hu4, hr⟩ => ?_)
    subst hu4
    rcases hr with ⟨rfl, hall⟩ | ⟨b, hb, rfl, hb1, hb2, hb3⟩
    · refine g_istore g dX0_leastLossWith_33 (Nat.le_of_ble_eq_true rfl) ?_
      refine g_iload g dX0_leastLossWith_35 rfl ?_
      refine g_iflt (tgt := 108) g dX0_leastLossWith_37 (by decide) (n_m1lt) (fun c2 => ?_) (fun c2 => ?_)
      · have hmm : m = m0 := by
          rcases Nat.lt_or_ge m m0 with z | z
          · have z1 := hO.2.1 m z
            have z2 := hall _ z1.1 z1.2
            rw [hD _ z1.1, zin_n hinj z] at z2
            cases z2
          · omega
        refine g_iinc g dX0_leastLossWith_108 rfl (n_inc _) ?_
        refine g_goto (tgt := 21) g dX0_leastLossWith_111 (by decide) ?_
        refine g_forget 5 ?_
        exact ih (by omega) u4 K S Dn m (by omega) hF h73 hA hG hK hD hS
      · exact absurd trivial c2
    have hbm : m < m0 ∧ b = od m := by
      obtain ⟨q, q1, q2⟩ := hO.2.2.1 b hb hb1
      have hqm : m ≤ q := by
        rcases Nat.lt_or_ge q m with z | z
        · rw [hD b hb, zin_iff.mpr ⟨q, z, q2⟩] at hb2; cases hb2
        · exact z
      have hmlt : m < m0 := by omega
      refine ⟨hmlt, ?_⟩
      have z1 := hO.2.1 m hmlt
      rcases hb3 (od m) z1.1 z1.2 (by rw [hD _ z1.1]; exact zin_n hinj hmlt) with z | z
      · exact z.symm
      · rcases Nat.lt_or_ge m q with y | y
        · have x1 := hO.2.2.2 m q y q1
          rw [q2] at x1
          unfold zbf at z x1
          omega
        · rw [← q2, show q = m by omega]
    obtain ⟨hmlt, rfl⟩ := hbm
    have hbd := hs (od m) hb
    have hmi : m = i := by omega
    refine g_istore g dX0_leastLossWith_33 (Nat.le_of_ble_eq_true rfl) ?_
    refine g_iload g dX0_leastLossWith_35 rfl ?_
    refine g_iflt (tgt := 108) g dX0_leastLossWith_37 (by decide) (n_lt0 (by omega)) (fun c2 => ?_) (fun c2 => ?_)
    · exact c2.elim
    refine g_iload_n g dX0_leastLossWith_40 rfl rfl ?_
    refine g_iconst (v := 1) g dX0_leastLossWith_41 (by decide) ?_
    refine g_iload g dX0_leastLossWith_42 rfl ?_
    refine g_ishl g dX0_leastLossWith_44 ?_
    refine g_ior g dX0_leastLossWith_45 ?_
    refine g_istore_n g dX0_leastLossWith_46 rfl (Nat.le_of_ble_eq_true rfl) ?_
    refine g_iconst (v := nI 0) g dX0_leastLossWith_47 (by decide) ?_
    refine g_istore g dX0_leastLossWith_48 (Nat.le_of_ble_eq_true rfl) ?_
    -- the inner loop: n units more
    have fin : ∀ (n : Nat) (u5 : dS), n ≤ σ.2.1 4 (od m) → (n < σ.2.1 4 (od m) → ¬ zhall (zed σ sh) (zadd (zpv (zmu σ) od K m) (od m) (n + 1))) → dFr [9, 11] [8, 10, 12, 13] u4 u5 → zAs σ u5 (zadd (zpv (zmu σ) od K m) (od m) n) → gG E 77 [some (.ref (a 0)), some (.int sh), some (.int S), some (.int (Dn ||| ((1 : Int32) <<< (nI (od m) &&& 31)))), some (.int (nI i)), some (.int (nI (od m))), some (.int (nI n))] [] u5 := by
      intro n u5 hn hnx hf5 hA5
      have hu5 : zD σ u5 := hu3.fr hf5 (by decide) (by decide)
      refine g_aload_n g dX0_leastLossWith_77 rfl rfl ?_
      refine dk_get16 g k dX0_leastLossWith_78 ?_
      refine g_iload g dX0_leastLossWith_81 rfl ?_
      refine g_iload g dX0_leastLossWith_83 rfl ?_
      refine g_i2b g dX0_leastLossWith_85 (n_b2 _ (by omega)) ?_
      refine dk_st16 g k dX0_leastLossWith_86 (rfl) (hb) (n_nb _ (by omega)) ?_
      refine g_iload_n g dX0_leastLossWith_87 rfl rfl ?_
      refine g_aload_n g dX0_leastLossWith_88 rfl rfl ?_
      refine dk_get5 g k dX0_leastLossWith_89 ?_
      refine g_iload g dX0_leastLossWith_92 rfl ?_
      refine dk_ld5 g k dX0_leastLossWith_94 (rfl) (hb) ?_
      rw [dF_n _ _ _ _ _ (by decide), hu5.1.1 5 (by omega) (by omega) _ hb]
      refine g_aload_n g dX0_leastLossWith_95 rfl rfl ?_
      refine dk_get4 g k dX0_leastLossWith_96 ?_
      refine g_iload g dX0_leastLossWith_99 rfl ?_
      refine dk_ld4 g k dX0_leastLossWith_101 (rfl) (hb) ?_
      rw [dF_n _ _ _ _ _ (by decide), hu5.1.1 4 (by omega) (by omega) _ hb]
      refine g_iload g dX0_leastLossWith_102 rfl ?_
      refine g_isub g dX0_leastLossWith_104 ?_
      refine g_imul g dX0_leastLossWith_105 ?_
      refine g_iadd g dX0_leastLossWith_106 ?_
      rw [hS, n_ldec _ _ hn]
      refine g_istore_n g dX0_leastLossWith_107 rfl (Nat.le_of_ble_eq_true rfl) ?_
      refine g_iinc g dX0_leastLossWith_108 rfl (n_inc _) ?_
      refine g_goto (tgt := 21) g dX0_leastLossWith_111 (by decide) ?_
      refine g_forget 5 (g_forget 6 ?_)
      refine ih (by omega) _ (fun q => if q = od m then n else K q) _ _ (m + 1) (by omega) ?_ ?_ ?_ (zGk_put hinj hmlt hG hn hnx) ?_ ?_ ?_
      · exact (hF.tr (hf5.up (by decide) (by decide))).f (by decide)
      · rw [dF_1, hf5.1 7 (by decide)]; exact h73
      · have hA6 : zAs σ (dF u5 16 (od m) (nI n)) (zadd (zpv (zmu σ) od K m) (od m) n) := by
          obtain ⟨o, o1, o2, o3⟩ := hA5
          exact ⟨o, fun t ht => by rw [dF_n _ _ _ _ _ (by decide)]; exact o1 t ht, by rw [dF_1]; exact o2, o3⟩
        exact hA6.cg (fun q _ => (zpv_put hinj hmlt q).symm)
      · intro q hq
        rw [dF_2, if_pos rfl]
        by_cases hqm : q = m
        · subst hqm; simp
        · have hne : od q ≠ od m := fun z => hqm (hinj q m (by omega) hmlt z)
          simp only [hne, if_false]
          rw [hf5.2 16 (by decide)]
          exact hK q (by omega)
      · intro j hj
        rw [b_set (by omega) (by omega), hD j hj, zin_s]
      · congr 1
        show _ = zs _ m + _
        simp only [if_true]
        congr 1
        refine zs_congr (fun q hq => ?_)
        have hne : od q ≠ od m := fun z => by have := hinj q m (by omega) hmlt z; omega
        simp [hne]
    have inner : ∀ n, n ≤ σ.2.1 4 (od m) → ∀ u5 : dS, dFr [9, 11] [8, 10, 12, 13] u4 u5 → zAs σ u5 (zadd (zpv (zmu σ) od K m) (od m) n) → gG E 50 [some (.ref (a 0)), some (.int sh), some (.int S), some (.int (Dn ||| ((1 : Int32) <<< (nI (od m) &&& 31)))), some (.int (nI i)), some (.int (nI (od m))), some (.int (nI n))] [] u5 := by
      refine zdown _ (fun n hn ihn u5 hf5 hA5 => ?_)
      have hu5 : zD σ u5 := hu3.fr hf5 (by decide) (by decide)
      have h75 : u5.1 7 = sh := (hf5.1 7 (by decide)).trans h73
      refine g_iload g dX0_leastLossWith_50 rfl ?_
      refine g_aload_n g dX0_leastLossWith_52 rfl rfl ?_
      refine dk_get4 g k dX0_leastLossWith_53 ?_
      refine g_iload g dX0_leastLossWith_56 rfl ?_
      refine dk_ld4 g k dX0_leastLossWith_58 (rfl) (hb) ?_
      rw [hu5.1.1 4 (by omega) (by omega) _ hb]
      refine g_cmpge (tgt := 77) g dX0_leastLossWith_59 (by decide) (nI_leI (by omega) (by omega)) (fun c4 => ?_) (fun c4 => ?_)
      · exact fin n u5 hn (fun z => absurd z (by omega)) hf5 hA5
      refine g_aload_n g dX0_leastLossWith_62 rfl rfl ?_
      refine g_iload g dX0_leastLossWith_63 rfl ?_
      refine dk_call_give g k dX0_leastLossWith_65 (met_giveW l hs hu5.1 hA5 hb) (by decide) (Nat.le_of_ble_eq_true rfl) (fun r u6 ⟨hf6, h⟩ => ?_)
      rw [h75] at h
      have hz : ∀ q, q < 6 → zadd (zadd (zpv (zmu σ) od K m) (od m) n) (od m) 1 q = zadd (zpv (zmu σ) od K m) (od m) (n + 1) q := fun q hq => zadd_zadd _ _ _ _ q
      rcases h with ⟨rfl, h⟩ | ⟨rfl, h, hno⟩
      · refine g_ifeq (tgt := 77) g dX0_leastLossWith_68 (by decide) (Iff.rfl) (fun c5 => ?_) (fun c5 => ?_)
        · exact absurd c5 (by decide)
        · refine g_iinc g dX0_leastLossWith_71 rfl (n_inc _) ?_
          refine g_goto (tgt := 50) g dX0_leastLossWith_74 (by decide) ?_
          exact ihn (by omega) u6 (hf5.tr hf6) (h.cg hz)
      · refine g_ifeq (tgt := 77) g dX0_leastLossWith_68 (by decide) (Iff.rfl) (fun c5 => ?_) (fun c5 => ?_)
        · exact fin n u6 hn (fun _ q => hno ((zhall_cg hz).mpr q)) (hf5.tr hf6) h
        · exact absurd rfl c5
    exact inner 0 (by omega) u4 dFr.rf (hA.cg (fun q _ => by unfold zadd; split <;> omega))
  refine loop 0 (by omega) u2 (fun _ => 0) _ _ 0 (by omega) hF2 h72 (hA.cg (fun q _ => by simp [zpv, zin_0])) (fun q hq => absurd hq (by omega)) (fun q hq => absurd hq (by omega)) (fun j hj => ?_) rfl
  rw [zin_0]
  exact b_0 j
end
section
/-! Desk.restFits, firstOwner, learn -/
theorem zed_low {σ : zT} {T : Nat} (hT : T < 25) {j t : Nat} (ht : t < 24) : zed σ (σ.2.2 ||| (((1 : Int32) <<< (nI T &&& 31)) - 1)) j t = zel σ T j t := by
  unfold zel zed
  rw [b_or, b_low T hT t (by omega)]
  by_cases h : t < T
  · rw [decide_eq_true h, decide_eq_false (show ¬ T ≤ t by omega), Bool.or_true]
    simp
  · rw [decide_eq_false h, decide_eq_true (show T ≤ t by omega), Bool.or_false, Bool.and_true]
theorem zhall_ed {e e' : Nat → Nat → Bool} {w : Nat → Nat} (h : ∀ j, j < 6 → ∀ t, t < 24 → e j t = e' j t) : zhall e w ↔ zhall e' w := ⟨zhall_edge (fun j hj t ht _ q => by rw [← h j hj t ht]; exact q), zhall_edge (fun j hj t ht _ q => by rw [h j hj t ht]; exact q)⟩
theorem met_restFits (l : Launch) {σ : zT} {u : dS} {w : Nat → Nat} {T : Nat} (hs : zOk σ) (hu : zD σ u) (hT : T < 25) (hw : ∀ j, j < 6 → u.2 18 j = nI (w j) ∧ w j < 128) : gMi dkC l yX0_restFits cX0_restFits 3 (some .boolean) (gR 4 91) [.int (nI T)] u (fun r u' => dFr [7, 9, 11] [8, 10, 12, 13] u u' ∧ ((r = 1 ∧ zhall (zel σ T) w) ∨ (r = 0 ∧ ¬ zhall (zel σ T) w))) := by
  refine gMz_of (by decide +kernel) (Nat.le_of_ble_eq_true rfl) cat1 ?_
  intro E a g k ret
  refine g_loc (lv' := [some (.ref (a 0)), some (.int (nI T)), none]) rfl ?_
  refine g_aload_n g dX0_restFits_0 rfl rfl ?_
  refine g_aload_n g dX0_restFits_1 rfl rfl ?_
  refine dk_get6 g k dX0_restFits_2 ?_
  rw [hu.1.2]
  refine g_iconst (v := 1) g dX0_restFits_5 (by decide) ?_
  refine g_iload_n g dX0_restFits_6 rfl rfl ?_
  refine g_ishl g dX0_restFits_7 ?_
  refine g_iconst (v := 1) g dX0_restFits_8 (by decide) ?_
  refine g_isub g dX0_restFits_9 ?_
  refine g_ior g dX0_restFits_10 ?_
  refine dk_call_begin g k dX0_restFits_11 (met_begin l u _) (by decide) (Nat.le_of_ble_eq_true rfl) (fun u1 ⟨hf1, h7, h8⟩ => ?_)
  refine g_iconst (v := nI 0) g dX0_restFits_14 (by decide) ?_
  refine g_istore_n g dX0_restFits_15 rfl (Nat.le_of_ble_eq_true rfl) ?_
  have hF1 : dFr [7, 9, 11] [8, 10, 12, 13] u u1 := hf1.up (by decide) (by decide)
  have loop : ∀ i, i ≤ 6 → ∀ u2 : dS, dFr [9, 11] [8, 10, 12, 13] u1 u2 → zAs σ u2 (fun q => if q < i then w q else 0) → gG E 16 [some (.ref (a 0)), some (.int (nI T)), some (.int (nI i))] [] u2 := by
    refine zdown 6 (fun i hi ih u2 hf hA => ?_)
    have hF2 : dFr [7, 9, 11] [8, 10, 12, 13] u u2 := hF1.tr (hf.up (by decide) (by decide))
    have h72 := (hf.1 7 (by decide)).trans h7
    have hu2 : zD σ u2 := hu.fr hF2 (by decide) (by decide)
    refine g_iload_n g dX0_restFits_16 rfl rfl ?_
    refine g_bipush (v := nI 6) g dX0_restFits_17 (by decide) ?_
    refine g_cmpge (tgt := 44) g dX0_restFits_19 (by decide) (nI_leI (by omega) (by omega)) (fun c => ?_) (fun c => ?_)
    · refine g_iconst (v := 1) g dX0_restFits_44 (by decide) ?_
      exact ret _ _ _ _ dX0_restFits_45 (Or.inr rfl) (⟨hF2, Or.inl ⟨rfl, by have := (hA.cg (w' := w) (fun q hq => if_pos (by omega))).hall; rw [h72] at this; exact (zhall_ed (fun j _ t ht => zed_low hT ht)).mp this⟩⟩)
    have hi6 : i < 6 := by omega
    refine g_aload_n g dX0_restFits_22 rfl rfl ?_
    refine g_iload_n g dX0_restFits_23 rfl rfl ?_
    refine g_aload_n g dX0_restFits_24 rfl rfl ?_
    refine dk_get18 g k dX0_restFits_25 ?_
    refine g_iload_n g dX0_restFits_28 rfl rfl ?_
    refine dk_ld18 g k dX0_restFits_29 (rfl) (hi6) ?_
    rw [hF2.2 18 (by decide), (hw i hi6).1]
    have hz : ∀ q, q < 6 → zadd (fun q => if q < i then w q else 0) i (w i) q = if q < i + 1 then w q else 0 := fun q hq => by
      unfold zadd
      by_cases hqi : q = i
      · subst hqi; simp
      · simp only [hqi, if_false, show (q < i + 1) ↔ (q < i) by omega]
    refine dk_call_giveMany g k dX0_restFits_30 (met_giveMany l hs hu2.1 hA (fun _ => hi6) (hw i hi6).2) (by decide) (Nat.le_of_ble_eq_true rfl) (fun r u3 ⟨hf2, h⟩ => ?_)
    rcases h with ⟨rfl, h⟩ | ⟨rfl, h⟩
    · refine g_ifne (tgt := 38) g dX0_restFits_33 (by decide) (Iff.rfl) (fun c3 => ?_) (fun c3 => ?_)
      · refine g_iinc g dX0_restFits_38 rfl (n_inc _) ?_
        refine g_goto (tgt := 16) g dX0_restFits_41 (by decide) ?_
        exact ih (by omega) _ (hf.tr hf2) (h.cg hz)
      · exact absurd c3 (by decide)
    · refine g_ifne (tgt := 38) g dX0_restFits_33 (by decide) (Iff.rfl) (fun c3 => ?_) (fun c3 => ?_)
      · exact absurd rfl c3
      · refine g_iconst (v := 0) g dX0_restFits_36 (by decide) ?_
        exact ret _ _ _ _ dX0_restFits_37 (Or.inl rfl) (⟨hF2.tr (hf2.up (by decide) (by decide)), Or.inr ⟨rfl, fun q => h (zhall_mono (w := w) (fun i' hi' => by rw [hz i' hi']; split <;> omega) (by rw [h72]; exact (zhall_ed (fun j _ t ht => zed_low hT ht)).mpr q))⟩⟩)
  exact loop 0 (by omega) u1 dFr.rf ((zAs.zero h8).cg (fun q _ => by simp))
set_option maxHeartbeats 1000000 in
theorem met_firstOwner (l : Launch) {σ : zT} {u : dS} {w : Nat → Nat} {t : Nat} (hs : zOk σ) (hu : zD σ u) (ht : t < 24) (hw : ∀ j, j < 6 → u.2 18 j = nI (w j) ∧ w j < 128) : gMi dkC l yX0_firstOwner cX0_firstOwner 4 (some .int) (gR 5 113) [.int (nI t)] u (fun r u' => dFr [7, 9, 11] [8, 10, 12, 13, 18] u u' ∧ (∀ j, j < 6 → u'.2 18 j = nI (w j)) ∧ ((∃ j, j < 6 ∧ r = nI j ∧ zok σ w t j ∧ ∀ i, i < j → ¬ zok σ w t i) ∨ (r = -1 ∧ ∀ i, i < 6 → ¬ zok σ w t i))) := by
  refine gMi_of (by decide +kernel) (Nat.le_of_ble_eq_true rfl) cat1 ?_
  intro E a g k ret
  refine g_loc (lv' := [some (.ref (a 0)), some (.int (nI t)), none, none]) rfl ?_
  refine g_iconst (v := nI 0) g dX0_firstOwner_0 (by decide) ?_
  refine g_istore_n g dX0_firstOwner_1 rfl (Nat.le_of_ble_eq_true rfl) ?_
  have loop : ∀ i, i ≤ 6 → ∀ u1 : dS, dFr [7, 9, 11] [8, 10, 12, 13, 18] u u1 → (∀ j, j < 6 → u1.2 18 j = nI (w j)) → (∀ q, q < i → ¬ zok σ w t q) → gG E 2 [some (.ref (a 0)), some (.int (nI t)), some (.int (nI i)), none] [] u1 := by
    refine zdown 6 (fun i hi ih u1 hF hw1 hno => ?_)
    have hu1 : zD σ u1 := hu.fr hF (by decide) (by decide)
    refine g_iload_n g dX0_firstOwner_2 rfl rfl ?_
    refine g_bipush (v := nI 6) g dX0_firstOwner_3 (by decide) ?_
    refine g_cmpge (tgt := 76) g dX0_firstOwner_5 (by decide) (nI_leI (by omega) (by omega)) (fun c => ?_) (fun c => ?_)
    · refine g_iconst (v := (-1)) g dX0_firstOwner_76 (by decide) ?_
      exact ret _ _ _ _ dX0_firstOwner_77 (⟨hF, hw1, Or.inr ⟨rfl, fun q hq => hno q (by omega)⟩⟩)
    have hi6 : i < 6 := by omega
    have hwi := (hw i hi6).2
    refine g_aload_n g dX0_firstOwner_8 rfl rfl ?_
    refine g_aload_n g dX0_firstOwner_9 rfl rfl ?_
    refine dk_get6 g k dX0_firstOwner_10 ?_
    refine dk_call_begin g k dX0_firstOwner_13 (met_begin l u1 _) (by decide) (Nat.le_of_ble_eq_true rfl) (fun u2 ⟨hf2, h7, h8⟩ => ?_)
    have hF2 : dFr [7, 9, 11] [8, 10, 12, 13, 18] u u2 := hF.tr (hf2.up (by decide) (by decide))
    have hu2 : zD σ u2 := hu.fr hF2 (by decide) (by decide)
    have hw2 : ∀ j, j < 6 → u2.2 18 j = nI (w j) := fun j hj => by rw [hf2.2 18 (by decide)]; exact hw1 j hj
    rw [hu1.1.2] at h7
    have nx : ∀ (u3 : dS), dFr [7, 9, 11] [8, 10, 12, 13, 18] u u3 → (∀ j, j < 6 → u3.2 18 j = nI (w j)) → ¬ zok σ w t i → gG E 70 [some (.ref (a 0)), some (.int (nI t)), some (.int (nI i)), none] [] u3 := by
      intro u3 hF3 hw3 hnok
      refine g_iinc g dX0_firstOwner_70 rfl (n_inc _) ?_
      refine g_goto (tgt := 2) g dX0_firstOwner_73 (by decide) ?_
      refine ih (by omega) u3 hF3 hw3 (fun q hq => ?_)
      by_cases hqi : q = i
      · subst hqi; exact hnok
      · exact hno q (by omega)
    refine g_aload_n g dX0_firstOwner_16 rfl rfl ?_
    refine dk_get18 g k dX0_firstOwner_17 ?_
    refine g_iload_n g dX0_firstOwner_20 rfl rfl ?_
    refine dk_ld18 g k dX0_firstOwner_21 (rfl) (hi6) ?_
    rw [hw2 i hi6]
    refine g_ifle (tgt := 70) g dX0_firstOwner_22 (by decide) (n_le0 (by omega)) (fun c2 => ?_) (fun c2 => ?_)
    · exact nx u2 hF2 hw2 (fun z => by have := z.1; omega)
    refine g_aload_n g dX0_firstOwner_25 rfl rfl ?_
    refine g_iload_n g dX0_firstOwner_26 rfl rfl ?_
    refine g_iload_n g dX0_firstOwner_27 rfl rfl ?_
    refine dk_call_inWindow g k dX0_firstOwner_28 (met_inWindow l hs hu2.1 hi6 ht) (by decide) (Nat.le_of_ble_eq_true rfl) (fun r u3 ⟨hu3, hr⟩ => ?_)
    rw [h7] at hr
    subst hu3 hr
    refine g_ifeq (tgt := 70) g dX0_firstOwner_31 (by decide) (bI_0) (fun c3 => ?_) (fun c3 => ?_)
    · exact nx _ hF2 hw2 (fun z => by rw [z.2.1] at c3; cases c3)
    have hed := eq_true_of_ne_false c3
    refine g_aload_n g dX0_firstOwner_34 rfl rfl ?_
    refine dk_get18 g k dX0_firstOwner_35 ?_
    refine g_iload_n g dX0_firstOwner_38 rfl rfl ?_
    refine g_dup2 g dX0_firstOwner_39 rfl rfl ?_
    refine dk_ld18 g k dX0_firstOwner_40 (rfl) (hi6) ?_
    rw [hw2 i hi6]
    refine g_iconst (v := 1) g dX0_firstOwner_41 (by decide) ?_
    refine g_isub g dX0_firstOwner_42 ?_
    refine g_top (v := nI (w i - 1)) (by rw [show nI (w i) = nI (w i - 1 + 1) by rw [Nat.sub_add_cancel (by omega)]]; exact nI_pred _) ?_
    refine g_i2b g dX0_firstOwner_43 (n_b2 _ (by omega)) ?_
    refine dk_st18 g k dX0_firstOwner_44 (rfl) (hi6) (n_nb _ (by omega)) ?_
    refine g_aload_n g dX0_firstOwner_45 rfl rfl ?_
    refine g_iload_n g dX0_firstOwner_46 rfl rfl ?_
    refine g_iconst (v := 1) g dX0_firstOwner_47 (by decide) ?_
    refine g_iadd g dX0_firstOwner_48 ?_
    rw [nI_1]
    have hwd : ∀ j, j < 6 → (dF u3 18 i (nI (w i - 1))).2 18 j = nI (zsubt w i j) ∧ zsubt w i j < 128 := fun j hj => by
      rw [dF_2, if_pos rfl]
      have := (hw j hj).2
      unfold zsubt
      by_cases hji : j = i
      · subst hji; simp only [if_true]; exact ⟨trivial, by omega⟩
      · simp only [hji, if_false]; exact ⟨hw2 j hj, this⟩
    have hFd : dFr [7, 9, 11] [8, 10, 12, 13, 18] u (dF u3 18 i (nI (w i - 1))) := hF2.f (by decide)
    have hud : zD σ (dF u3 18 i (nI (w i - 1))) := hu.fr hFd (by decide) (by decide)
    refine dk_call_restFits g k dX0_firstOwner_49 (met_restFits l hs hud (show t + 1 < 25 by omega) hwd) (by decide) (Nat.le_of_ble_eq_true rfl) (fun r u4 ⟨hf4, hr⟩ => ?_)
    refine g_istore_n g dX0_firstOwner_52 rfl (Nat.le_of_ble_eq_true rfl) ?_
    refine g_aload_n g dX0_firstOwner_53 rfl rfl ?_
    refine dk_get18 g k dX0_firstOwner_54 ?_
    refine g_iload_n g dX0_firstOwner_57 rfl rfl ?_
    refine g_dup2 g dX0_firstOwner_58 rfl rfl ?_
    have hF4 : dFr [7, 9, 11] [8, 10, 12, 13, 18] u u4 := hFd.tr (hf4.up (by decide) (by decide))
    have hw4 : ∀ j, j < 6 → u4.2 18 j = nI (zsubt w i j) := fun j hj => by rw [hf4.2 18 (by decide)]; exact (hwd j hj).1
    refine dk_ld18 g k dX0_firstOwner_59 (rfl) (hi6) ?_
    rw [hw4 i hi6]
    refine g_iconst (v := 1) g dX0_firstOwner_60 (by decide) ?_
    refine g_iadd g dX0_firstOwner_61 ?_
    refine g_top (v := nI (w i)) (by rw [nI_1]; unfold zsubt; rw [if_pos rfl, Nat.sub_add_cancel (by omega)]) ?_
    refine g_i2b g dX0_firstOwner_62 (n_b2 _ (by omega)) ?_
    refine dk_st18 g k dX0_firstOwner_63 (rfl) (hi6) (n_nb _ (by omega)) ?_
    refine g_iload_n g dX0_firstOwner_64 rfl rfl ?_
    have hF5 : dFr [7, 9, 11] [8, 10, 12, 13, 18] u (dF u4 18 i (nI (w i))) := hF4.f (by decide)
    have hw5 : ∀ j, j < 6 → (dF u4 18 i (nI (w i))).2 18 j = nI (w j) := fun j hj => by
      rw [dF_2, if_pos rfl]
      by_cases hji : j = i
      · subst hji; simp
      · simp only [hji, if_false]; rw [hw4 j hj]; unfold zsubt; rw [if_neg hji]
    rcases hr with ⟨rfl, h⟩ | ⟨rfl, h⟩
    · refine g_ifeq (tgt := 70) g dX0_firstOwner_65 (by decide) (Iff.rfl) (fun c4 => ?_) (fun c4 => ?_)
      · exact absurd c4 (by decide)
      · refine g_iload_n g dX0_firstOwner_68 rfl rfl ?_
        exact ret _ _ _ _ dX0_firstOwner_69 (⟨hF5, hw5, Or.inl ⟨i, hi6, rfl, ⟨by omega, hed, h⟩, hno⟩⟩)
    · refine g_ifeq (tgt := 70) g dX0_firstOwner_65 (by decide) (Iff.rfl) (fun c4 => ?_) (fun c4 => ?_)
      · refine g_forget 3 ?_
        exact nx _ hF5 hw5 (fun z => h z.2.2)
      · exact absurd rfl c4
  exact loop 0 (by omega) u dFr.rf (fun j hj => (hw j hj).1) (fun q hq => absurd hq (by omega))
/-- what the cache holds when it is known -/
def zw0 (σ : zT) (K : Nat → Nat) : Nat → Nat := fun j => if σ.1 j = true then σ.2.1 3 j + K j else 0
def zCa (σ : zT) (u : dS) : Prop := ∃ (od : Nat → Nat) (m0 : Nat) (K p : Nat → Nat) (W : Nat → Nat → Nat), zOrd σ od m0 ∧ zGr (zed σ σ.2.2) (zmu σ) (σ.2.1 4) od m0 K ∧ (∀ j, j < 6 → σ.1 j = true → u.2 16 j = nI (K j)) ∧ u.1 15 = nI (zlost σ K) ∧ zPl σ (zw0 σ K) 24 p W ∧ ∀ t, t < 24 → u.2 17 t = zen (p t)
def zKn (σ : zT) (u : dS) : Prop := u.1 14 = 0 ∨ (u.1 14 = 1 ∧ zCa σ u)
theorem zGr_le {e : Nat → Nat → Bool} {σ : zT} {od K : Nat → Nat} {m0 : Nat} (hO : zOrd σ od m0) (hG : zGr e (zmu σ) (σ.2.1 4) od m0 K) {j : Nat} (hj : j < 6) (hth : σ.1 j = true) : K j ≤ σ.2.1 4 j := by
  obtain ⟨q, a, b⟩ := hO.2.2.1 j hj hth
  rw [← b]
  exact (hG.2 q a).1
theorem zst_le {σ : zT} {w w' : Nat → Nat} {t p : Nat} (h : zst σ w t p w') {j : Nat} (hj : j < 6) : w' j ≤ w j := by
  rcases h with ⟨-, -, -, h⟩ | ⟨-, -, h⟩
  · rw [h j hj]; unfold zsubt; split <;> omega
  · rw [h j hj]; exact Nat.le_refl _
theorem zen_p1 : vp_nar .byte (-1) = -1 := n_nm
set_option maxHeartbeats 2000000 in
theorem met_learn (l : Launch) {σ : zT} {u : dS} (hs : zOk σ) (hu : zD σ u) (hfit : zfit σ) (hk : zKn σ u) : gMv dkC l yX0_learn cX0_learn 2 (gR 6 138) [] u (fun u' => dFr [7, 9, 11, 14, 15] [8, 10, 12, 13, 16, 17, 18] u u' ∧ u'.1 14 = 1 ∧ zCa σ u') := by
  refine gMv_of (by decide +kernel) (Nat.le_of_ble_eq_true rfl) cat0 ?_
  intro E a g k ret
  refine g_loc (lv' := [some (.ref (a 0)), none]) rfl ?_
  refine g_aload_n g dX0_learn_0 rfl rfl ?_
  refine dk_get14 g k dX0_learn_1 ?_
  rcases hk with hk | ⟨hk, hc⟩
  rotate_left
  · rw [hk]
    refine g_ifeq (tgt := 8) g dX0_learn_4 (by decide) (Iff.rfl) (fun c => ?_) (fun c => ?_)
    · exact absurd c (by decide)
    · exact ret _ _ _ dX0_learn_7 (⟨dFr.rf, hk, hc⟩)
  rw [hk]
  refine g_ifeq (tgt := 8) g dX0_learn_4 (by decide) (Iff.rfl) (fun c => ?_) (fun c => ?_)
  rotate_left
  · exact absurd rfl c
  obtain ⟨od, m0, hO⟩ := zOrd_ex σ
  refine g_aload_n g dX0_learn_8 rfl rfl ?_
  refine g_aload_n g dX0_learn_9 rfl rfl ?_
  refine g_aload_n g dX0_learn_10 rfl rfl ?_
  refine dk_get6 g k dX0_learn_11 ?_
  refine dk_call_leastLossWith g k dX0_learn_14 (met_leastLossWith l hs hu hO _) (by decide) (Nat.le_of_ble_eq_true rfl) (fun r u1 ⟨hf1, hr⟩ => ?_)
  rw [hu.1.2] at hr
  obtain ⟨K, hG, hK, rfl⟩ : ∃ K, zGr (zed σ σ.2.2) (zmu σ) (σ.2.1 4) od m0 K ∧ (∀ j, j < 6 → σ.1 j = true → u1.2 16 j = nI (K j)) ∧ r = nI (zlost σ K) := by
    rcases hr with ⟨-, h⟩ | h
    · exact absurd hfit h
    · exact h
  refine dk_put15 g k dX0_learn_17 ?_
  refine g_iconst (v := nI 0) g dX0_learn_20 (by decide) ?_
  refine g_istore_n g dX0_learn_21 rfl (Nat.le_of_ble_eq_true rfl) ?_
  have hF1 : dFr [7, 9, 11, 14, 15] [8, 10, 12, 13, 16, 17, 18] u (dI u1 15 (nI (zlost σ K))) := (hf1.up (by decide) (by decide)).i (by decide)
  generalize hu1e : dI u1 15 (nI (zlost σ K)) = u2 at hF1 ⊢
  have hK2 : ∀ j, j < 6 → σ.1 j = true → u2.2 16 j = nI (K j) := by rw [← hu1e]; exact hK
  have h15 : u2.1 15 = nI (zlost σ K) := by rw [← hu1e, dI_1, if_pos rfl]
  have hu2 : zD σ u2 := hu.fr hF1 (by decide) (by decide)
  -- the first loop: what is to be given
  have plan : ∀ i, i ≤ 24 → ∀ (u3 : dS) (p : Nat → Nat) (W : Nat → Nat → Nat), dFr [7, 9, 11] [8, 10, 12, 13, 17, 18] u2 u3 → zPl σ (zw0 σ K) i p W → (∀ s, s < i → u3.2 17 s = zen (p s)) → (∀ j, j < 6 → u3.2 18 j = nI (W i j) ∧ W i j < 128) → gG E 68 [some (.ref (a 0)), some (.int (nI i))] [] u3 := by
    refine zdown 24 (fun i hi ih u3 p W hF hPl hp hW => ?_)
    have hu3 : zD σ u3 := hu2.fr hF (by decide) (by decide)
    refine g_iload_n g dX0_learn_68 rfl rfl ?_
    refine g_bipush (v := nI 24) g dX0_learn_69 (by decide) ?_
    refine g_cmpge (tgt := 117) g dX0_learn_71 (by decide) (nI_leI (by omega) (by omega)) (fun c1 => ?_) (fun c1 => ?_)
    · have : i = 24 := by omega
      subst this
      refine g_aload_n g dX0_learn_117 rfl rfl ?_
      refine g_iconst (v := nI 1) g dX0_learn_118 (by decide) ?_
      refine dk_put14 g k dX0_learn_119 (Or.inr rfl) ?_
      exact ret _ _ _ dX0_learn_122 (⟨(hF1.tr (hF.up (by decide) (by decide))).i (by decide), by rw [dI_1, if_pos rfl]; rfl, od, m0, K, p, W, hO, hG, fun j hj hth => by rw [dI_2, hF.2 16 (by decide)]; exact hK2 j hj hth, by rw [dI_1, if_neg (by decide), hF.1 15 (by decide)]; exact h15, hPl, fun t ht => by rw [dI_2]; exact hp t ht⟩)
    have hi24 : i < 24 := by omega
    refine g_aload_n g dX0_learn_74 rfl rfl ?_
    refine dk_get17 g k dX0_learn_75 ?_
    refine g_iload_n g dX0_learn_78 rfl rfl ?_
    refine g_aload_n g dX0_learn_79 rfl rfl ?_
    refine g_iload_n g dX0_learn_80 rfl rfl ?_
    refine dk_call_firstOwner g k dX0_learn_81 (met_firstOwner l hs hu3 hi24 hW) (by decide) (Nat.le_of_ble_eq_true rfl) (fun r u4 ⟨hf4, hw4, hr⟩ => ?_)
    have hF4 : dFr [7, 9, 11] [8, 10, 12, 13, 17, 18] u2 u4 := hF.tr (hf4.up (by decide) (by decide))
    have h17 : ∀ s, s < i → u4.2 17 s = zen (p s) := fun s hs => by rw [hf4.2 17 (by decide)]; exact hp s hs
    rcases hr with ⟨j, hj, rfl, hok, hno⟩ | ⟨rfl, hno⟩
    · refine g_i2b g dX0_learn_84 (n_b2 _ (by omega)) ?_
      refine dk_st17 g k dX0_learn_85 (rfl) (hi24) (n_nb _ (by omega)) ?_
      refine g_aload_n g dX0_learn_86 rfl rfl ?_
      refine dk_get17 g k dX0_learn_87 ?_
      refine g_iload_n g dX0_learn_90 rfl rfl ?_
      refine dk_ld17 g k dX0_learn_91 (rfl) (hi24) ?_
      rw [dF_2, if_pos rfl, if_pos rfl]
      refine g_iflt (tgt := 111) g dX0_learn_92 (by decide) (n_lt0 (by omega)) (fun c2 => ?_) (fun c2 => ?_)
      · exact c2.elim
      refine g_aload_n g dX0_learn_95 rfl rfl ?_
      refine dk_get18 g k dX0_learn_96 ?_
      refine g_aload_n g dX0_learn_99 rfl rfl ?_
      refine dk_get17 g k dX0_learn_100 ?_
      refine g_iload_n g dX0_learn_103 rfl rfl ?_
      refine dk_ld17 g k dX0_learn_104 (rfl) (hi24) ?_
      rw [dF_2, if_pos rfl, if_pos rfl]
      refine g_dup2 g dX0_learn_105 rfl rfl ?_
      refine dk_ld18 g k dX0_learn_106 (rfl) (hj) ?_
      rw [dF_n _ _ _ _ _ (by decide), hw4 j hj]
      have hWj := (hW j hj).2
      have hW0 := hok.1
      refine g_iconst (v := 1) g dX0_learn_107 (by decide) ?_
      refine g_isub g dX0_learn_108 ?_
      refine g_top (v := nI (W i j - 1)) (by rw [show nI (W i j) = nI (W i j - 1 + 1) by rw [Nat.sub_add_cancel (by omega)]]; exact nI_pred _) ?_
      refine g_i2b g dX0_learn_109 (n_b2 _ (by omega)) ?_
      refine dk_st18 g k dX0_learn_110 (rfl) (hj) (n_nb _ (by omega)) ?_
      refine g_iinc g dX0_learn_111 rfl (n_inc _) ?_
      refine g_goto (tgt := 68) g dX0_learn_114 (by decide) ?_
      refine ih hi24 _ _ _ ?_ (zPl_put hPl (r := j) (w' := zsubt (W i) j) (Or.inl ⟨hj, hok, hno, fun _ _ => rfl⟩)) ?_ ?_
      · exact (hF4.f (by decide)).f (by decide)
      · intro s hs
        rw [dF_n _ _ _ _ _ (by decide), dF_2, if_pos rfl]
        by_cases hsi : s = i
        · simp only [hsi, if_true]; exact (zen_lt hj).symm
        · simp only [hsi, if_false]; exact h17 s (by omega)
      · intro q hq
        have := (hW q hq).2
        simp only [if_true]
        rw [dF_2, if_pos rfl]
        unfold zsubt
        by_cases hqj : q = j
        · subst hqj; simp only [if_true]; exact ⟨trivial, by omega⟩
        · simp only [hqj, if_false]; rw [dF_n _ _ _ _ _ (by decide)]; exact ⟨hw4 q hq, this⟩
    · refine g_i2b g dX0_learn_84 (n_m1) ?_
      refine dk_st17 g k dX0_learn_85 (rfl) (hi24) (n_nm) ?_
      refine g_aload_n g dX0_learn_86 rfl rfl ?_
      refine dk_get17 g k dX0_learn_87 ?_
      refine g_iload_n g dX0_learn_90 rfl rfl ?_
      refine dk_ld17 g k dX0_learn_91 (rfl) (hi24) ?_
      rw [dF_2, if_pos rfl, if_pos rfl]
      refine g_iflt (tgt := 111) g dX0_learn_92 (by decide) (n_m1lt) (fun c2 => ?_) (fun c2 => ?_)
      rotate_left
      · exact absurd trivial c2
      refine g_iinc g dX0_learn_111 rfl (n_inc _) ?_
      refine g_goto (tgt := 68) g dX0_learn_114 (by decide) ?_
      refine ih hi24 _ _ _ ?_ (zPl_put hPl (r := 6) (w' := W i) (Or.inr ⟨rfl, hno, fun _ _ => rfl⟩)) ?_ ?_
      · exact hF4.f (by decide)
      · intro s hs
        rw [dF_2, if_pos rfl]
        by_cases hsi : s = i
        · simp only [hsi, if_true]; rfl
        · simp only [hsi, if_false]; exact h17 s (by omega)
      · intro q hq
        simp only [if_true]
        rw [dF_n _ _ _ _ _ (by decide)]
        exact ⟨hw4 q hq, (hW q hq).2⟩
  have loop : ∀ i, i ≤ 6 → ∀ u3 : dS, dFr [7, 9, 11] [8, 10, 12, 13, 17, 18] u2 u3 → (∀ j, j < i → u3.2 18 j = nI (zw0 σ K j)) → gG E 22 [some (.ref (a 0)), some (.int (nI i))] [] u3 := by
    refine zdown 6 (fun i hi ih u3 hF hw => ?_)
    have hu3 : zD σ u3 := hu2.fr hF (by decide) (by decide)
    refine g_iload_n g dX0_learn_22 rfl rfl ?_
    refine g_bipush (v := nI 6) g dX0_learn_23 (by decide) ?_
    refine g_cmpge (tgt := 66) g dX0_learn_25 (by decide) (nI_leI (by omega) (by omega)) (fun c1 => ?_) (fun c1 => ?_)
    · refine g_iconst (v := nI 0) g dX0_learn_66 (by decide) ?_
      refine g_istore_n g dX0_learn_67 rfl (Nat.le_of_ble_eq_true rfl) ?_
      refine plan 0 (by omega) u3 (fun _ => 0) (fun _ => zw0 σ K) hF ⟨fun _ _ => rfl, fun t ht => absurd ht (by omega)⟩ (fun s hs => absurd hs (by omega)) (fun j hj => ⟨hw j (by omega), ?_⟩)
      unfold zw0
      split
      · rename_i hth
        have b1 := hs j hj
        have b2 := zGr_le hO hG hj hth
        omega
      · omega
    have hi6 : i < 6 := by omega
    have nx : ∀ x : Nat, x = zw0 σ K i → x < 128 → gG E 58 [some (.ref (a 0)), some (.int (nI i))] [.int (nI x), .int (nI i), .ref (a 18)] u3 := by
      intro x hx hx8
      refine g_i2b g dX0_learn_58 (n_b2 _ hx8) ?_
      refine dk_st18 g k dX0_learn_59 (rfl) (hi6) (n_nb _ hx8) ?_
      refine g_iinc g dX0_learn_60 rfl (n_inc _) ?_
      refine g_goto (tgt := 22) g dX0_learn_63 (by decide) ?_
      refine ih (by omega) _ (hF.f (by decide)) (fun j hj => ?_)
      rw [dF_2, if_pos rfl]
      by_cases hji : j = i
      · simp only [hji, if_true]; rw [hx]
      · simp only [hji, if_false]; exact hw j (by omega)
    refine g_aload_n g dX0_learn_28 rfl rfl ?_
    refine dk_get18 g k dX0_learn_29 ?_
    refine g_iload_n g dX0_learn_32 rfl rfl ?_
    refine g_aload_n g dX0_learn_33 rfl rfl ?_
    refine g_iload_n g dX0_learn_34 rfl rfl ?_
    refine dk_call_has g k dX0_learn_35 (met_has l hu3 (nI i)) (by decide) (Nat.le_of_ble_eq_true rfl) (fun r u4 ⟨hu4, hr⟩ => ?_)
    rw [zh_in hi6] at hr
    subst hu4 hr
    refine g_ifeq (tgt := 57) g dX0_learn_38 (by decide) (bI_0) (fun c2 => ?_) (fun c2 => ?_)
    · refine g_iconst (v := nI 0) g dX0_learn_57 (by decide) ?_
      exact nx 0 (by unfold zw0; rw [c2]; rfl) (by omega)
    have hth := eq_true_of_ne_false c2
    have b1 := hs i hi6
    have b2 := zGr_le hO hG hi6 hth
    refine g_aload_n g dX0_learn_41 rfl rfl ?_
    refine dk_get3 g k dX0_learn_42 ?_
    refine g_iload_n g dX0_learn_45 rfl rfl ?_
    refine dk_ld3 g k dX0_learn_46 (rfl) (hi6) ?_
    rw [hu3.1.1 3 (by omega) (by omega) i hi6]
    refine g_aload_n g dX0_learn_47 rfl rfl ?_
    refine dk_get16 g k dX0_learn_48 ?_
    refine g_iload_n g dX0_learn_51 rfl rfl ?_
    refine dk_ld16 g k dX0_learn_52 (rfl) (hi6) ?_
    rw [hF.2 16 (by decide), hK2 i hi6 hth]
    refine g_iadd g dX0_learn_53 ?_
    rw [nI_add]
    refine g_goto (tgt := 58) g dX0_learn_54 (by decide) ?_
    exact nx _ (by unfold zw0; rw [hth]; rfl) (by omega)
  exact loop 0 (by omega) u2 dFr.rf (fun j hj => absurd hj (by omega))
end
section
/-! changes of the tasks' state -/
def zup (f : Nat → Nat → Nat) (k j v : Nat) : Nat → Nat → Nat := fun k' j' => if k' = k ∧ j' = j then v else f k' j'
def zth (th : Nat → Bool) (j : Nat) (b : Bool) : Nat → Bool := fun i => if i = j then b else th i
/-- the numbers of a packed word -/
def zpkP (x : Int32) : Prop := ¬ nI 6 < x &&& 7 ∧ ¬ nI 6 < (x >>> (3 &&& 31)) &&& 7 ∧ ¬ x >>> (6 &&& 31) < nI 1 ∧ ¬ nI 9 < x >>> (6 &&& 31)
def zpk (x : Int32) (a b w : Nat) : Prop := x &&& 7 = nI a ∧ (x >>> (3 &&& 31)) &&& 7 = nI b ∧ x >>> (6 &&& 31) = nI w
theorem zpk_of {x : Int32} (h : zpkP x) : ∃ a b w, zpk x a b w ∧ a ≤ 6 ∧ b ≤ 6 ∧ 1 ≤ w ∧ w ≤ 9 := by
  obtain ⟨h1, h2, h3, h4⟩ := h
  obtain ⟨a, a1, a2⟩ := pk_andE x (m := 7) 3 (by decide)
  obtain ⟨b, b1, b2⟩ := pk_andE (x >>> (3 &&& 31)) (m := 7) 3 (by decide)
  obtain ⟨w, w1, w2⟩ := nI_of2 (x := x >>> (6 &&& 31)) (M := nI 9) (n := 9) (by decide) (fun q => h3 (by
      rw [Int32.lt_iff_toInt_lt] at q ⊢
      rw [Int32.toInt_zero] at q
      rw [nI_toInt (by decide)]
      omega)) (by rw [Int32.lt_iff_toInt_lt] at h4; rw [Int32.le_iff_toInt_le]; omega)
  have w0 : 1 ≤ w := by
    rw [w2, nI_ltI (by omega) (by omega)] at h3
    omega
  rw [a2, nI_ltI (by omega) (by omega)] at h1
  rw [b2, nI_ltI (by omega) (by omega)] at h2
  exact ⟨a, b, w, ⟨a2, b2, w2⟩, by omega, by omega, w0, w1⟩
theorem zpk_pos {x : Int32} (h : zpkP x) : 0 ≤ x := by
  obtain ⟨a, b, w, ⟨-, -, h3⟩, -, -, h1, h9⟩ := zpk_of h
  have e := pk_shr x (6 &&& 31) 6 (by decide)
  rw [h3, nI_toInt (by omega)] at e
  rw [Int32.le_iff_toInt_le, Int32.toInt_zero]
  rw [Int.shiftRight_eq_div_pow] at e
  omega
theorem zpk_self {a b w : Nat} (ha : a ≤ 6) (hb : b ≤ 6) (hw : w ≤ 9) : zpk (nI a + nI 8 * nI b + nI 64 * nI w) a b w := by
  rw [pk_mul, pk_mul, nI_add, nI_add]
  refine ⟨?_, ?_, ?_⟩
  · rw [pk_andN (by omega) (m := 7) 3 (by decide)]
    congr 1
    omega
  · rw [pk_shrN (by omega) (3 &&& 31) 3 (by decide), pk_andN (by omega) (m := 7) 3 (by decide)]
    congr 1
    omega
  · rw [pk_shrN (by omega) (6 &&& 31) 6 (by decide)]
    congr 1
    omega
/-- the state with a task's numbers set -/
def zst3 (σ : zT) (j a b w : Nat) : zT := (σ.1, zup (zup (zup σ.2.1 3 j a) 4 j b) 5 j w, σ.2.2)
theorem zst3_ok {σ : zT} {j a b w : Nat} (h : zOk σ) (ha : a ≤ 6) (hb : b ≤ 6) (hw : w ≤ 9) : zOk (zst3 σ j a b w) := by
  intro i hi
  have := h i hi
  unfold zst3 zup
  by_cases hij : i = j
  · simp only [hij]; simp; subst hij; omega
  · simp only [hij]; simp; omega
theorem zA_f {σ : zT} {u : dS} {k j v : Nat} (h : zA σ u) : zA (σ.1, zup σ.2.1 k j v, σ.2.2) (dF u k j (nI v)) := by
  refine ⟨fun k' h1 h5 j' hj' => ?_, h.2⟩
  rw [dF_2]
  unfold zup
  by_cases hk : k' = k
  · subst hk
    by_cases hj : j' = j
    · simp [hj]
    · simp only [hj]; simp; exact h.1 k' h1 h5 j' hj'
  · simp only [hk]; simp; exact h.1 k' h1 h5 j' hj'
theorem zA_i {σ : zT} {u : dS} {k : Nat} {x : Int32} (h : zA σ u) (hk : k ≠ 6) : zA σ (dI u k x) := by
  refine ⟨fun k' h1 h5 j' hj' => h.1 k' h1 h5 j' hj', ?_⟩
  rw [dI_1, if_neg (fun z => hk z.symm)]
  exact h.2
theorem zA_th {σ : zT} {u : dS} {th : Nat → Bool} (h : zA σ u) : zA (th, σ.2.1, σ.2.2) u := h
theorem zKn.fr {σ : zT} {u u' : dS} {js ks : List Nat} (h : zKn σ u) (hf : dFr js ks u u') (hj : 14 ∉ js ∧ 15 ∉ js) (hk : 16 ∉ ks ∧ 17 ∉ ks) : zKn σ u' := by
  rcases h with h | ⟨h, od, m0, K, p, W, h1, h2, h3, h4, h5, h6⟩
  · exact Or.inl ((hf.1 14 hj.1).trans h)
  · exact Or.inr ⟨(hf.1 14 hj.1).trans h, od, m0, K, p, W, h1, h2, fun j a b => by rw [hf.2 16 hk.1]; exact h3 j a b, (hf.1 15 hj.2).trans h4, h5, fun t ht => by rw [hf.2 17 hk.2]; exact h6 t ht⟩
/-- a task taken away: the rest still fits -/
theorem zfit_take {σ : zT} (h : zfit σ) (j : Nat) : zfit (zth σ.1 j false, σ.2.1, σ.2.2) := by
  refine zhall_mono (fun i _ => ?_) h
  unfold zmu zth
  by_cases hi : i = j
  · simp [hi]
  · simp [hi]
end
section
/-! Desk: packedOk, unpack, take, tasks, blocked, block, change, bring -/
theorem met_packedOk (l : Launch) (u : dS) (x : Int32) : gSi dkC l yX0_packedOk cX0_packedOk 2 (some .boolean) (gR 0 0) [.int x] u (fun r u' => u' = u ∧ ((r = 1 ∧ zpkP x) ∨ (r = 0 ∧ ¬ zpkP x))) := by
  refine gSz_of (by decide +kernel) (Nat.le_of_ble_eq_true rfl) cat1 ?_
  intro E a g k ret
  refine g_loc (lv' := [some (.int x), none]) rfl ?_
  refine g_iload_n g dX0_packedOk_0 rfl rfl ?_
  refine g_bipush (v := 6) g dX0_packedOk_1 (by decide) ?_
  refine g_ishr g dX0_packedOk_3 ?_
  refine g_istore_n g dX0_packedOk_4 rfl (Nat.le_of_ble_eq_true rfl) ?_
  refine g_iload_n g dX0_packedOk_5 rfl rfl ?_
  refine g_bipush (v := 7) g dX0_packedOk_6 (by decide) ?_
  refine g_iand g dX0_packedOk_8 ?_
  refine g_bipush (v := nI 6) g dX0_packedOk_9 (by decide) ?_
  refine g_cmpgt (tgt := 40) g dX0_packedOk_11 (by decide) (Iff.rfl) (fun c1 => ?_) (fun c1 => ?_)
  · refine g_iconst (v := 0) g dX0_packedOk_40 (by decide) ?_
    exact ret _ _ _ _ dX0_packedOk_41 (Or.inl rfl) (⟨rfl, Or.inr ⟨rfl, fun z => z.1 c1⟩⟩)
  refine g_iload_n g dX0_packedOk_14 rfl rfl ?_
  refine g_iconst (v := 3) g dX0_packedOk_15 (by decide) ?_
  refine g_ishr g dX0_packedOk_16 ?_
  refine g_bipush (v := 7) g dX0_packedOk_17 (by decide) ?_
  refine g_iand g dX0_packedOk_19 ?_
  refine g_bipush (v := nI 6) g dX0_packedOk_20 (by decide) ?_
  refine g_cmpgt (tgt := 40) g dX0_packedOk_22 (by decide) (Iff.rfl) (fun c2 => ?_) (fun c2 => ?_)
  · refine g_iconst (v := 0) g dX0_packedOk_40 (by decide) ?_
    exact ret _ _ _ _ dX0_packedOk_41 (Or.inl rfl) (⟨rfl, Or.inr ⟨rfl, fun z => z.2.1 c2⟩⟩)
  refine g_iload_n g dX0_packedOk_25 rfl rfl ?_
  refine g_iconst (v := nI 1) g dX0_packedOk_26 (by decide) ?_
  refine g_cmplt (tgt := 40) g dX0_packedOk_27 (by decide) (Iff.rfl) (fun c3 => ?_) (fun c3 => ?_)
  · refine g_iconst (v := 0) g dX0_packedOk_40 (by decide) ?_
    exact ret _ _ _ _ dX0_packedOk_41 (Or.inl rfl) (⟨rfl, Or.inr ⟨rfl, fun z => z.2.2.1 c3⟩⟩)
  refine g_iload_n g dX0_packedOk_30 rfl rfl ?_
  refine g_bipush (v := nI 9) g dX0_packedOk_31 (by decide) ?_
  refine g_cmpgt (tgt := 40) g dX0_packedOk_33 (by decide) (Iff.rfl) (fun c4 => ?_) (fun c4 => ?_)
  · refine g_iconst (v := 0) g dX0_packedOk_40 (by decide) ?_
    exact ret _ _ _ _ dX0_packedOk_41 (Or.inl rfl) (⟨rfl, Or.inr ⟨rfl, fun z => z.2.2.2 c4⟩⟩)
  refine g_iconst (v := 1) g dX0_packedOk_36 (by decide) ?_
  refine g_goto (tgt := 41) g dX0_packedOk_37 (by decide) ?_
  exact ret _ _ _ _ dX0_packedOk_41 (Or.inr rfl) (⟨rfl, Or.inl ⟨rfl, c1, c2, c3, c4⟩⟩)
theorem met_unpack (l : Launch) (u : dS) {j a1 b1 w1 : Nat} {x : Int32} (hj : j < 6) (hx : zpk x a1 b1 w1) (ha : a1 ≤ 6) (hb : b1 ≤ 6) (hw : w1 ≤ 9) : gMv dkC l yX0_unpack cX0_unpack 3 (gR 0 0) [.int (nI j), .int x] u (fun u' => u' = dI (dF (dF (dF u 3 j (nI a1)) 4 j (nI b1)) 5 j (nI w1)) 14 0) := by
  refine gMv_of (by decide +kernel) (Nat.le_of_ble_eq_true rfl) cat2 ?_
  intro E a g k ret
  refine g_loc (lv' := [some (.ref (a 0)), some (.int (nI j)), some (.int x)]) rfl ?_
  refine g_aload_n g dX0_unpack_0 rfl rfl ?_
  refine dk_get3 g k dX0_unpack_1 ?_
  refine g_iload_n g dX0_unpack_4 rfl rfl ?_
  refine g_iload_n g dX0_unpack_5 rfl rfl ?_
  refine g_bipush (v := 7) g dX0_unpack_6 (by decide) ?_
  refine g_iand g dX0_unpack_8 ?_
  rw [hx.1]
  refine g_i2b g dX0_unpack_9 (n_b2 _ (by omega)) ?_
  refine dk_st3 g k dX0_unpack_10 (rfl) (hj) (n_nb _ (by omega)) ?_
  refine g_aload_n g dX0_unpack_11 rfl rfl ?_
  refine dk_get4 g k dX0_unpack_12 ?_
  refine g_iload_n g dX0_unpack_15 rfl rfl ?_
  refine g_iload_n g dX0_unpack_16 rfl rfl ?_
  refine g_iconst (v := 3) g dX0_unpack_17 (by decide) ?_
  refine g_ishr g dX0_unpack_18 ?_
  refine g_bipush (v := 7) g dX0_unpack_19 (by decide) ?_
  refine g_iand g dX0_unpack_21 ?_
  rw [hx.2.1]
  refine g_i2b g dX0_unpack_22 (n_b2 _ (by omega)) ?_
  refine dk_st4 g k dX0_unpack_23 (rfl) (hj) (n_nb _ (by omega)) ?_
  refine g_aload_n g dX0_unpack_24 rfl rfl ?_
  refine dk_get5 g k dX0_unpack_25 ?_
  refine g_iload_n g dX0_unpack_28 rfl rfl ?_
  refine g_iload_n g dX0_unpack_29 rfl rfl ?_
  refine g_bipush (v := 6) g dX0_unpack_30 (by decide) ?_
  refine g_ishr g dX0_unpack_32 ?_
  rw [hx.2.2]
  refine g_i2b g dX0_unpack_33 (n_b2 _ (by omega)) ?_
  refine dk_st5 g k dX0_unpack_34 (rfl) (hj) (n_nb _ (by omega)) ?_
  refine g_aload_n g dX0_unpack_35 rfl rfl ?_
  refine g_iconst (v := nI 0) g dX0_unpack_36 (by decide) ?_
  refine dk_put14 g k dX0_unpack_37 (Or.inl rfl) ?_
  exact ret _ _ _ dX0_unpack_40 (rfl)
theorem met_take (l : Launch) {σ : zT} {u : dS} (hu : zD σ u) (x : Int32) : gMi dkC l yX0_take cX0_take 2 (some .boolean) (gR 1 21) [.int x] u (fun r u' => (zh σ.1 x = false → r = 0 ∧ u' = u) ∧ ∀ j, j < 6 → x = nI j → σ.1 j = true → r = 1 ∧ zD (zth σ.1 j false, σ.2.1, σ.2.2) u' ∧ u'.1 14 = 0) := by
  refine gMz_of (by decide +kernel) (Nat.le_of_ble_eq_true rfl) cat1 ?_
  intro E a g k ret
  refine g_loc (lv' := [some (.ref (a 0)), some (.int x)]) rfl ?_
  refine g_aload_n g dX0_take_0 rfl rfl ?_
  refine g_iload_n g dX0_take_1 rfl rfl ?_
  refine dk_call_has g k dX0_take_2 (met_has l hu x) (by decide) (Nat.le_of_ble_eq_true rfl) (fun r u1 ⟨hu1, hr⟩ => ?_)
  subst hu1 hr
  refine g_ifne (tgt := 10) g dX0_take_5 (by decide) (bI_0) (fun c => ?_) (fun c => ?_)
  rotate_left
  · refine g_iconst (v := 0) g dX0_take_8 (by decide) ?_
    exact ret _ _ _ _ dX0_take_9 (Or.inl rfl) (⟨fun _ => ⟨rfl, rfl⟩, fun j hj hx hth => by rw [hx, zh_in hj, hth] at c; cases c⟩)
  obtain ⟨j, hj, rfl⟩ : ∃ j, j < 6 ∧ x = nI j := by
    rcases n_in x 6 (by decide) with h | h
    · exact absurd (zh_out h) c
    · exact h
  rw [zh_in hj] at c
  refine g_aload_n g dX0_take_10 rfl rfl ?_
  refine g_dup g dX0_take_11 rfl ?_
  refine dk_get0 g k dX0_take_12 ?_
  refine g_iconst (v := 1) g dX0_take_15 (by decide) ?_
  refine g_iload_n g dX0_take_16 rfl rfl ?_
  refine g_ishl g dX0_take_17 ?_
  refine g_iconst (v := (-1)) g dX0_take_18 (by decide) ?_
  refine g_ixor g dX0_take_19 ?_
  refine g_iand g dX0_take_20 ?_
  refine dk_put0 g k dX0_take_21 ?_
  refine g_aload_n g dX0_take_24 rfl rfl ?_
  refine g_iconst (v := nI 0) g dX0_take_25 (by decide) ?_
  refine dk_put14 g k dX0_take_26 (Or.inl rfl) ?_
  refine g_iconst (v := 1) g dX0_take_29 (by decide) ?_
  refine ret _ _ _ _ dX0_take_30 (Or.inr rfl) (⟨fun z => by rw [zh_in hj] at z; exact absurd z c, fun i hi hij hth => ⟨rfl, ?_, by rw [dI_1, if_pos rfl]; rfl⟩⟩)
  have hji : j = i := (nI_eq (by omega) (by omega)).mp hij
  subst hji
  refine ⟨zA_i (zA_i (zA_th hu.1) (by decide)) (by decide), fun q hq => ?_⟩
  rw [dI_1, if_neg (by decide), dI_1, if_pos rfl, b_clr (by omega) hq, hu.2 q hq]
  unfold zth
  by_cases hqj : q = j
  · simp [hqj]
  · simp [hqj]
theorem met_tasks (l : Launch) {σ : zT} {u : dS} (hu : zD σ u) : gMi dkC l yX0_tasks cX0_tasks 1 (some .int) (gR 0 0) [] u (fun r u' => u' = u ∧ ∀ j, j < 32 → bt r j = (decide (j < 6) && σ.1 j)) := by
  refine gMi_of (by decide +kernel) (Nat.le_of_ble_eq_true rfl) cat0 ?_
  intro E a g k ret
  refine g_loc (lv' := [some (.ref (a 0))]) rfl ?_
  refine g_aload_n g dX0_tasks_0 rfl rfl ?_
  refine dk_get0 g k dX0_tasks_1 ?_
  exact ret _ _ _ _ dX0_tasks_4 (⟨rfl, hu.2⟩)
theorem met_blocked (l : Launch) {σ : zT} {u : dS} (hu : zD σ u) : gMi dkC l yX0_blocked cX0_blocked 1 (some .int) (gR 0 0) [] u (fun r u' => u' = u ∧ r = σ.2.2) := by
  refine gMi_of (by decide +kernel) (Nat.le_of_ble_eq_true rfl) cat0 ?_
  intro E a g k ret
  refine g_loc (lv' := [some (.ref (a 0))]) rfl ?_
  refine g_aload_n g dX0_blocked_0 rfl rfl ?_
  refine dk_get6 g k dX0_blocked_1 ?_
  exact ret _ _ _ _ dX0_blocked_4 (⟨rfl, hu.1.2⟩)
/-- the blocked units with t blocked or not -/
def zbl (B : Int32) (t : Nat) (b : Bool) : Int32 := if b = true then B ||| ((1 : Int32) <<< (nI t &&& 31)) else B &&& (((1 : Int32) <<< (nI t &&& 31)) ^^^ (-1))
theorem zA_b {σ : zT} {u : dS} {B : Int32} (h : zA σ u) : zA (σ.1, σ.2.1, B) (dI u 6 B) := ⟨h.1, by rw [dI_1, if_pos rfl]⟩
theorem zD_b {σ : zT} {u : dS} {B : Int32} (h : zD σ u) : zD (σ.1, σ.2.1, B) (dI u 6 B) := ⟨zA_b h.1, fun j hj => by rw [dI_1, if_neg (by decide)]; exact h.2 j hj⟩
set_option maxHeartbeats 1000000 in
theorem met_block (l : Launch) {σ : zT} {u : dS} (hs : zOk σ) (hu : zD σ u) (hk : zKn σ u) (x : Int32) (b : Bool) : gMi dkC l yX0_block cX0_block 4 (some .int) (gR 6 132) [.int x, .int (bI b)] u (fun r u' => ((x < 0 ∨ nI 24 ≤ x) → r = -1 ∧ u' = u) ∧ ∀ t, t < 24 → x = nI t → (zfit (σ.1, σ.2.1, zbl σ.2.2 t b) → r = nI t ∧ zD (σ.1, σ.2.1, zbl σ.2.2 t b) u' ∧ u'.1 14 = 0) ∧ (¬ zfit (σ.1, σ.2.1, zbl σ.2.2 t b) → r = -3 ∧ zD σ u' ∧ zKn σ u')) := by
  refine gMi_of (by decide +kernel) (Nat.le_of_ble_eq_true rfl) cat2 ?_
  intro E a g k ret
  refine g_loc (lv' := [some (.ref (a 0)), some (.int x), some (.int (bI b)), none]) rfl ?_
  refine g_iload_n g dX0_block_0 rfl rfl ?_
  refine g_iflt (tgt := 10) g dX0_block_1 (by decide) (Iff.rfl) (fun c1 => ?_) (fun c1 => ?_)
  · refine g_iconst (v := (-1)) g dX0_block_10 (by decide) ?_
    exact ret _ _ _ _ dX0_block_11 (⟨fun _ => ⟨rfl, rfl⟩, fun t ht hx => absurd c1 (by rw [hx]; exact nI_pos (by omega))⟩)
  refine g_iload_n g dX0_block_4 rfl rfl ?_
  refine g_bipush (v := nI 24) g dX0_block_5 (by decide) ?_
  refine g_cmplt (tgt := 12) g dX0_block_7 (by decide) (Iff.rfl) (fun c2 => ?_) (fun c2 => ?_)
  rotate_left
  · refine g_iconst (v := (-1)) g dX0_block_10 (by decide) ?_
    exact ret _ _ _ _ dX0_block_11 (⟨fun _ => ⟨rfl, rfl⟩, fun t ht hx => absurd (by rw [hx]; exact nI_lt ht (by omega)) c2⟩)
  obtain ⟨t, ht, rfl⟩ : ∃ t, t < 24 ∧ x = nI t := by
    rcases n_in x 24 (by decide) with (h | h) | h
    · exact absurd h c1
    · rw [Int32.lt_iff_toInt_lt] at c2; rw [Int32.le_iff_toInt_le] at h; omega
    · exact h
  have bad : ¬ (nI t < 0 ∨ nI 24 ≤ nI t) := by
    rintro (z | z)
    · exact c1 z
    · rw [nI_leI (by omega) (by omega)] at z; omega
  refine g_aload_n g dX0_block_12 rfl rfl ?_
  refine dk_get6 g k dX0_block_13 ?_
  refine g_istore_n g dX0_block_16 rfl (Nat.le_of_ble_eq_true rfl) ?_
  rw [hu.1.2]
  have rest : ∀ B : Int32, B = zbl σ.2.2 t b → gG E 43 [some (.ref (a 0)), some (.int (nI t)), some (.int (bI b)), some (.int σ.2.2)] [.int B, .ref (a 0)] u := by
    rintro B rfl
    refine dk_put6 g k dX0_block_43 ?_
    refine g_aload_n g dX0_block_46 rfl rfl ?_
    refine dk_call_possible g k dX0_block_47 (met_possible l (σ := (σ.1, σ.2.1, zbl σ.2.2 t b)) hs (zD_b hu)) (by decide) (Nat.le_of_ble_eq_true rfl) (fun r u1 ⟨hf1, hr⟩ => ?_)
    have hu1 : zD (σ.1, σ.2.1, zbl σ.2.2 t b) u1 := (zD_b hu).fr hf1 (by decide) (by decide)
    rcases hr with ⟨rfl, hfit⟩ | ⟨rfl, hfit⟩
    · refine g_ifne (tgt := 61) g dX0_block_50 (by decide) (Iff.rfl) (fun c3 => ?_) (fun c3 => ?_)
      rotate_left
      · exact absurd c3 (by decide)
      refine g_aload_n g dX0_block_61 rfl rfl ?_
      refine g_iconst (v := nI 0) g dX0_block_62 (by decide) ?_
      refine dk_put14 g k dX0_block_63 (Or.inl rfl) ?_
      refine g_iload_n g dX0_block_66 rfl rfl ?_
      refine ret _ _ _ _ dX0_block_67 (⟨fun z => absurd z bad, fun t' ht' hx => ?_⟩)
      have : t = t' := (nI_eq (by omega) (by omega)).mp hx
      subst this
      refine ⟨fun _ => ⟨rfl, ⟨zA_i hu1.1 (by decide), fun q hq => ?_⟩, by rw [dI_1, if_pos rfl]; rfl⟩, fun z => absurd hfit z⟩
      rw [dI_1, if_neg (by decide)]
      exact hu1.2 q hq
    · refine g_ifne (tgt := 61) g dX0_block_50 (by decide) (Iff.rfl) (fun c3 => ?_) (fun c3 => ?_)
      · exact absurd rfl c3
      refine g_aload_n g dX0_block_53 rfl rfl ?_
      refine g_iload_n g dX0_block_54 rfl rfl ?_
      refine dk_put6 g k dX0_block_55 ?_
      refine g_bipush (v := (-3)) g dX0_block_58 (by decide) ?_
      refine ret _ _ _ _ dX0_block_60 (⟨fun z => absurd z bad, fun t' ht' hx => ?_⟩)
      have : t = t' := (nI_eq (by omega) (by omega)).mp hx
      subst this
      refine ⟨fun z => absurd z hfit, fun _ => ⟨rfl, ?_, ?_⟩⟩
      · exact zD_b (σ := (σ.1, σ.2.1, zbl σ.2.2 t b)) hu1
      · have hF : dFr [6, 7, 9, 11] [8, 10, 12, 13] u (dI u1 6 σ.2.2) := (((dFr.rf.i (by decide)).tr (hf1.up (by decide) (by decide))).i (by decide))
        exact hk.fr hF (by decide) (by decide)
  refine g_aload_n g dX0_block_17 rfl rfl ?_
  refine g_iload_n g dX0_block_18 rfl rfl ?_
  refine g_ifeq (tgt := 33) g dX0_block_19 (by decide) (bI_0) (fun c3 => ?_) (fun c3 => ?_)
  · refine g_aload_n g dX0_block_33 rfl rfl ?_
    refine dk_get6 g k dX0_block_34 ?_
    rw [hu.1.2]
    refine g_iconst (v := 1) g dX0_block_37 (by decide) ?_
    refine g_iload_n g dX0_block_38 rfl rfl ?_
    refine g_ishl g dX0_block_39 ?_
    refine g_iconst (v := (-1)) g dX0_block_40 (by decide) ?_
    refine g_ixor g dX0_block_41 ?_
    refine g_iand g dX0_block_42 ?_
    exact rest _ (by unfold zbl; rw [c3]; rfl)
  · refine g_aload_n g dX0_block_22 rfl rfl ?_
    refine dk_get6 g k dX0_block_23 ?_
    rw [hu.1.2]
    refine g_iconst (v := 1) g dX0_block_26 (by decide) ?_
    refine g_iload_n g dX0_block_27 rfl rfl ?_
    refine g_ishl g dX0_block_28 ?_
    refine g_ior g dX0_block_29 ?_
    refine g_goto (tgt := 43) g dX0_block_30 (by decide) ?_
    exact rest _ (by unfold zbl; rw [eq_true_of_ne_false c3]; rfl)
end
section
/-! Desk: change, bring -/
theorem zD_unp {σ : zT} {u : dS} {j a b w : Nat} (h : zD σ u) : zD (zst3 σ j a b w) (dI (dF (dF (dF u 3 j (nI a)) 4 j (nI b)) 5 j (nI w)) 14 0) :=
  ⟨zA_i (zA_f (σ := (σ.1, zup (zup σ.2.1 3 j a) 4 j b, σ.2.2)) (zA_f (σ := (σ.1, zup σ.2.1 3 j a, σ.2.2)) (zA_f h.1))) (by decide), fun q hq => by
    rw [dI_1, if_neg (by decide), dF_1, dF_1, dF_1]
    exact h.2 q hq⟩
theorem zst3_back (σ : zT) (j a b w : Nat) : zst3 (zst3 σ j a b w) j (σ.2.1 3 j) (σ.2.1 4 j) (σ.2.1 5 j) = σ := by
  refine Prod.ext rfl (Prod.ext ?_ rfl)
  funext k i
  show zup (zup (zup (zup (zup (zup σ.2.1 3 j a) 4 j b) 5 j w) 3 j (σ.2.1 3 j)) 4 j (σ.2.1 4 j)) 5 j (σ.2.1 5 j) k i = σ.2.1 k i
  unfold zup
  by_cases hi : i = j
  · subst hi
    by_cases h3 : k = 3
    · simp [h3]
    · by_cases h4 : k = 4
      · simp [h4]
      · by_cases h5 : k = 5
        · simp [h5]
        · simp [h3, h4, h5]
  · simp [hi]
theorem met_change_bad (l : Launch) {σ : zT} {u : dS} (hu : zD σ u) (x y : Int32) (hbad : zh σ.1 x = false ∨ ¬ zpkP y) : gMi dkC l yX0_change cX0_change 4 (some .int) (gR 6 132) [.int x, .int y] u (fun r u' => r = -1 ∧ u' = u) := by
  refine gMi_of (by decide +kernel) (Nat.le_of_ble_eq_true rfl) cat2 ?_
  intro E a g k ret
  refine g_loc (lv' := [some (.ref (a 0)), some (.int x), some (.int y), none]) rfl ?_
  refine g_aload_n g dX0_change_0 rfl rfl ?_
  refine g_iload_n g dX0_change_1 rfl rfl ?_
  refine dk_call_has g k dX0_change_2 (met_has l hu x) (by decide) (Nat.le_of_ble_eq_true rfl) (fun r u1 ⟨hu1, hr⟩ => ?_)
  subst hu1 hr
  refine g_ifeq (tgt := 15) g dX0_change_5 (by decide) (bI_0) (fun c => ?_) (fun c => ?_)
  · refine g_iconst (v := (-1)) g dX0_change_15 (by decide) ?_
    exact ret _ _ _ _ dX0_change_16 (⟨rfl, rfl⟩)
  refine g_iload_n g dX0_change_8 rfl rfl ?_
  refine dk_call_packedOk g k dX0_change_9 (met_packedOk l _ y) (by decide) (Nat.le_of_ble_eq_true rfl) (fun r u2 ⟨hu2, hr⟩ => ?_)
  subst hu2
  rcases hr with ⟨rfl, h⟩ | ⟨rfl, h⟩
  · rcases hbad with z | z
    · exact absurd z c
    · exact absurd h z
  · refine g_ifne (tgt := 17) g dX0_change_12 (by decide) (Iff.rfl) (fun c2 => ?_) (fun c2 => ?_)
    · exact absurd rfl c2
    · refine g_iconst (v := (-1)) g dX0_change_15 (by decide) ?_
      exact ret _ _ _ _ dX0_change_16 (⟨rfl, rfl⟩)
set_option maxHeartbeats 1000000 in
theorem met_change (l : Launch) {σ : zT} {u : dS} {j a1 b1 w1 : Nat} {y : Int32} (hs : zOk σ) (hu : zD σ u) (hj : j < 6) (hth : σ.1 j = true) (hy : zpkP y) (hx : zpk y a1 b1 w1) (ha : a1 ≤ 6) (hb : b1 ≤ 6) (hw : w1 ≤ 9) : gMi dkC l yX0_change cX0_change 4 (some .int) (gR 6 132) [.int (nI j), .int y] u (fun r u' => (zfit (zst3 σ j a1 b1 w1) → r = nI j ∧ zD (zst3 σ j a1 b1 w1) u' ∧ u'.1 14 = 0) ∧ (¬ zfit (zst3 σ j a1 b1 w1) → r = -3 ∧ zD σ u' ∧ u'.1 14 = 0)) := by
  refine gMi_of (by decide +kernel) (Nat.le_of_ble_eq_true rfl) cat2 ?_
  intro E a g k ret
  have hbd := hs j hj
  refine g_loc (lv' := [some (.ref (a 0)), some (.int (nI j)), some (.int y), none]) rfl ?_
  refine g_aload_n g dX0_change_0 rfl rfl ?_
  refine g_iload_n g dX0_change_1 rfl rfl ?_
  refine dk_call_has g k dX0_change_2 (met_has l hu (nI j)) (by decide) (Nat.le_of_ble_eq_true rfl) (fun r u1 ⟨hu1, hr⟩ => ?_)
  rw [zh_in hj, hth] at hr
  subst hu1 hr
  refine g_ifeq (tgt := 15) g dX0_change_5 (by decide) (bI_0) (fun c => ?_) (fun c => ?_)
  · cases c
  refine g_iload_n g dX0_change_8 rfl rfl ?_
  refine dk_call_packedOk g k dX0_change_9 (met_packedOk l _ y) (by decide) (Nat.le_of_ble_eq_true rfl) (fun r u2 ⟨hu2, hr⟩ => ?_)
  subst hu2
  rcases hr with ⟨rfl, -⟩ | ⟨rfl, h⟩
  rotate_left
  · exact absurd hy h
  refine g_ifne (tgt := 17) g dX0_change_12 (by decide) (Iff.rfl) (fun c2 => ?_) (fun c2 => ?_)
  rotate_left
  · exact absurd c2 (by decide)
  refine g_aload_n g dX0_change_17 rfl rfl ?_
  refine dk_get3 g k dX0_change_18 ?_
  refine g_iload_n g dX0_change_21 rfl rfl ?_
  refine dk_ld3 g k dX0_change_22 (rfl) (hj) ?_
  rw [hu.1.1 3 (by omega) (by omega) j hj]
  refine g_bipush (v := nI 8) g dX0_change_23 (by decide) ?_
  refine g_aload_n g dX0_change_25 rfl rfl ?_
  refine dk_get4 g k dX0_change_26 ?_
  refine g_iload_n g dX0_change_29 rfl rfl ?_
  refine dk_ld4 g k dX0_change_30 (rfl) (hj) ?_
  rw [hu.1.1 4 (by omega) (by omega) j hj]
  refine g_imul g dX0_change_31 ?_
  refine g_iadd g dX0_change_32 ?_
  refine g_bipush (v := nI 64) g dX0_change_33 (by decide) ?_
  refine g_aload_n g dX0_change_35 rfl rfl ?_
  refine dk_get5 g k dX0_change_36 ?_
  refine g_iload_n g dX0_change_39 rfl rfl ?_
  refine dk_ld5 g k dX0_change_40 (rfl) (hj) ?_
  rw [hu.1.1 5 (by omega) (by omega) j hj]
  refine g_imul g dX0_change_41 ?_
  refine g_iadd g dX0_change_42 ?_
  refine g_istore_n g dX0_change_43 rfl (Nat.le_of_ble_eq_true rfl) ?_
  refine g_aload_n g dX0_change_44 rfl rfl ?_
  refine g_iload_n g dX0_change_45 rfl rfl ?_
  refine g_iload_n g dX0_change_46 rfl rfl ?_
  refine dk_call_unpack g k dX0_change_47 (met_unpack l _ hj hx ha hb hw) (by decide) (Nat.le_of_ble_eq_true rfl) (fun u3 hu3 => ?_)
  have hD3 : zD (zst3 σ j a1 b1 w1) u3 := by rw [hu3]; exact zD_unp hu
  have h14 : u3.1 14 = 0 := by rw [hu3, dI_1, if_pos rfl]
  refine g_aload_n g dX0_change_50 rfl rfl ?_
  refine dk_call_possible g k dX0_change_51 (met_possible l (zst3_ok hs ha hb hw) hD3) (by decide) (Nat.le_of_ble_eq_true rfl) (fun r u4 ⟨hf4, hr⟩ => ?_)
  have hD4 : zD (zst3 σ j a1 b1 w1) u4 := hD3.fr hf4 (by decide) (by decide)
  rcases hr with ⟨rfl, hfit⟩ | ⟨rfl, hfit⟩
  · refine g_ifeq (tgt := 59) g dX0_change_54 (by decide) (Iff.rfl) (fun c3 => ?_) (fun c3 => ?_)
    · exact absurd c3 (by decide)
    · refine g_iload_n g dX0_change_57 rfl rfl ?_
      exact ret _ _ _ _ dX0_change_58 (⟨fun _ => ⟨rfl, hD4, (hf4.1 14 (by decide)).trans h14⟩, fun z => absurd hfit z⟩)
  · refine g_ifeq (tgt := 59) g dX0_change_54 (by decide) (Iff.rfl) (fun c3 => ?_) (fun c3 => ?_)
    rotate_left
    · exact absurd rfl c3
    refine g_aload_n g dX0_change_59 rfl rfl ?_
    refine g_iload_n g dX0_change_60 rfl rfl ?_
    refine g_iload_n g dX0_change_61 rfl rfl ?_
    refine dk_call_unpack g k dX0_change_62 (met_unpack l _ hj (zpk_self (a := σ.2.1 3 j) (b := σ.2.1 4 j) (w := σ.2.1 5 j) (by omega) (by omega) (by omega)) (by omega) (by omega) (by omega)) (by decide) (Nat.le_of_ble_eq_true rfl) (fun u5 hu5 => ?_)
    refine g_bipush (v := (-3)) g dX0_change_65 (by decide) ?_
    exact ret _ _ _ _ dX0_change_67 (⟨fun z => absurd z hfit, fun _ => ⟨rfl, by rw [hu5]; have := zD_unp (j := j) (a := σ.2.1 3 j) (b := σ.2.1 4 j) (w := σ.2.1 5 j) hD4; rw [zst3_back] at this; exact this, by rw [hu5, dI_1, if_pos rfl]⟩⟩)
def zbad (x y z : Int32) : Prop := x < 0 ∨ nI 24 < y ∨ y ≤ x ∨ ¬ zpkP z
def zbr (σ : zT) (th : Nat → Bool) (j p q a b w : Nat) : zT := (th, zup (zup (zup (zup (zup σ.2.1 1 j p) 2 j q) 3 j a) 4 j b) 5 j w, σ.2.2)
theorem zbr_ok {σ : zT} {th : Nat → Bool} {j p q a b w : Nat} (h : zOk σ) (hp : p ≤ 24) (hq : q ≤ 24) (ha : a ≤ 6) (hb : b ≤ 6) (hw : w ≤ 9) : zOk (zbr σ th j p q a b w) := by
  intro i hi
  have := h i hi
  unfold zbr zup
  by_cases hij : i = j
  · simp only [hij]; simp; subst hij; omega
  · simp only [hij]; simp; omega
theorem zbr_fit {σ : zT} {j p q a b w : Nat} (h : zfit σ) (hth : σ.1 j = false) : zfit (zbr σ σ.1 j p q a b w) := by
  have e : ∀ i, i < 6 → zmu σ i = zmu (zbr σ σ.1 j p q a b w) i := fun i hi => by
    unfold zmu zbr zup
    by_cases hij : i = j
    · subst hij; simp [hth]
    · simp [hij]
  refine (zhall_cg e).mp (zhall_edge (fun i hi t ht h0 he => ?_) h)
  have hij : i ≠ j := fun z => by
    subst z
    unfold zmu at h0
    rw [hth] at h0
    simp at h0
  unfold zed zbr zup at *
  simpa [hij] using he
theorem met_bring_bad (l : Launch) (u : dS) (x y z : Int32) (hbad : zbad x y z) : gMi dkC l yX0_bring cX0_bring 5 (some .int) (gR 6 132) [.int x, .int y, .int z] u (fun r u' => r = -1 ∧ u' = u) := by
  refine gMi_of (by decide +kernel) (Nat.le_of_ble_eq_true rfl) cat3 ?_
  intro E a g k ret
  refine g_loc (lv' := [some (.ref (a 0)), some (.int x), some (.int y), some (.int z), none]) rfl ?_
  refine g_iload_n g dX0_bring_0 rfl rfl ?_
  refine g_iflt (tgt := 22) g dX0_bring_1 (by decide) (Iff.rfl) (fun c1 => ?_) (fun c1 => ?_)
  · refine g_iconst (v := (-1)) g dX0_bring_22 (by decide) ?_
    exact ret _ _ _ _ dX0_bring_23 (⟨rfl, rfl⟩)
  refine g_iload_n g dX0_bring_4 rfl rfl ?_
  refine g_bipush (v := nI 24) g dX0_bring_5 (by decide) ?_
  refine g_cmpgt (tgt := 22) g dX0_bring_7 (by decide) (Iff.rfl) (fun c2 => ?_) (fun c2 => ?_)
  · refine g_iconst (v := (-1)) g dX0_bring_22 (by decide) ?_
    exact ret _ _ _ _ dX0_bring_23 (⟨rfl, rfl⟩)
  refine g_iload_n g dX0_bring_10 rfl rfl ?_
  refine g_iload_n g dX0_bring_11 rfl rfl ?_
  refine g_cmpge (tgt := 22) g dX0_bring_12 (by decide) (Iff.rfl) (fun c3 => ?_) (fun c3 => ?_)
  · refine g_iconst (v := (-1)) g dX0_bring_22 (by decide) ?_
    exact ret _ _ _ _ dX0_bring_23 (⟨rfl, rfl⟩)
  refine g_iload_n g dX0_bring_15 rfl rfl ?_
  refine dk_call_packedOk g k dX0_bring_16 (met_packedOk l _ z) (by decide) (Nat.le_of_ble_eq_true rfl) (fun r u2 ⟨hu2, hr⟩ => ?_)
  subst hu2
  rcases hr with ⟨rfl, h⟩ | ⟨rfl, h⟩
  · rcases hbad with q | q | q | q
    · exact absurd q c1
    · exact absurd q c2
    · exact absurd q c3
    · exact absurd h q
  · refine g_ifne (tgt := 24) g dX0_bring_19 (by decide) (Iff.rfl) (fun c4 => ?_) (fun c4 => ?_)
    · exact absurd rfl c4
    · refine g_iconst (v := (-1)) g dX0_bring_22 (by decide) ?_
      exact ret _ _ _ _ dX0_bring_23 (⟨rfl, rfl⟩)
set_option maxHeartbeats 1000000 in
theorem met_bring (l : Launch) {σ : zT} {u : dS} {p q a1 b1 w1 j0 : Nat} {z : Int32} (hs : zOk σ) (hu : zD σ u) (hpq : p < q) (hq : q ≤ 24) (hz : zpkP z) (hx : zpk z a1 b1 w1) (ha : a1 ≤ 6) (hb : b1 ≤ 6) (hw : w1 ≤ 9) (hj0 : j0 ≤ 6) (hbef : ∀ i, i < j0 → σ.1 i = true) (hat : j0 < 6 → σ.1 j0 = false) : gMi dkC l yX0_bring cX0_bring 5 (some .int) (gR 6 132) [.int (nI p), .int (nI q), .int z] u (fun r u' => (j0 = 6 → r = -2 ∧ u' = u) ∧ (j0 < 6 → (zfit (zbr σ (zth σ.1 j0 true) j0 p q a1 b1 w1) → r = nI j0 ∧ zD (zbr σ (zth σ.1 j0 true) j0 p q a1 b1 w1) u' ∧ u'.1 14 = 0) ∧ (¬ zfit (zbr σ (zth σ.1 j0 true) j0 p q a1 b1 w1) → r = -3 ∧ zD (zbr σ σ.1 j0 p q a1 b1 w1) u' ∧ u'.1 14 = 0))) := by
  refine gMi_of (by decide +kernel) (Nat.le_of_ble_eq_true rfl) cat3 ?_
  intro E a g k ret
  refine g_loc (lv' := [some (.ref (a 0)), some (.int (nI p)), some (.int (nI q)), some (.int z), none]) rfl ?_
  refine g_iload_n g dX0_bring_0 rfl rfl ?_
  refine g_iflt (tgt := 22) g dX0_bring_1 (by decide) (n_lt0 (by omega)) (fun c1 => ?_) (fun c1 => ?_)
  · exact c1.elim
  refine g_iload_n g dX0_bring_4 rfl rfl ?_
  refine g_bipush (v := nI 24) g dX0_bring_5 (by decide) ?_
  refine g_cmpgt (tgt := 22) g dX0_bring_7 (by decide) (nI_ltI (by omega) (by omega)) (fun c2 => ?_) (fun c2 => ?_)
  · omega
  refine g_iload_n g dX0_bring_10 rfl rfl ?_
  refine g_iload_n g dX0_bring_11 rfl rfl ?_
  refine g_cmpge (tgt := 22) g dX0_bring_12 (by decide) (nI_leI (by omega) (by omega)) (fun c3 => ?_) (fun c3 => ?_)
  · omega
  refine g_iload_n g dX0_bring_15 rfl rfl ?_
  refine dk_call_packedOk g k dX0_bring_16 (met_packedOk l _ z) (by decide) (Nat.le_of_ble_eq_true rfl) (fun r u2 ⟨hu2, hr⟩ => ?_)
  subst hu2
  rcases hr with ⟨rfl, -⟩ | ⟨rfl, h⟩
  rotate_left
  · exact absurd hz h
  refine g_ifne (tgt := 24) g dX0_bring_19 (by decide) (Iff.rfl) (fun c4 => ?_) (fun c4 => ?_)
  rotate_left
  · exact absurd c4 (by decide)
  refine g_iconst (v := nI 0) g dX0_bring_24 (by decide) ?_
  refine g_istore g dX0_bring_25 (Nat.le_of_ble_eq_true rfl) ?_
  have loop : ∀ i, i ≤ j0 → gG E 27 [some (.ref (a 0)), some (.int (nI p)), some (.int (nI q)), some (.int z), some (.int (nI i))] [] u2 := by
    refine zdown j0 (fun i hi ih => ?_)
    refine g_iload g dX0_bring_27 rfl ?_
    refine g_bipush (v := nI 6) g dX0_bring_29 (by decide) ?_
    refine g_cmpge (tgt := 115) g dX0_bring_31 (by decide) (nI_leI (by omega) (by omega)) (fun c5 => ?_) (fun c5 => ?_)
    · refine g_bipush (v := (-2)) g dX0_bring_115 (by decide) ?_
      exact ret _ _ _ _ dX0_bring_117 (⟨fun _ => ⟨rfl, rfl⟩, fun y => by omega⟩)
    have hi6 : i < 6 := by omega
    refine g_aload_n g dX0_bring_34 rfl rfl ?_
    refine g_iload g dX0_bring_35 rfl ?_
    refine dk_call_has g k dX0_bring_37 (met_has l hu (nI i)) (by decide) (Nat.le_of_ble_eq_true rfl) (fun r u1 ⟨hu1, hr⟩ => ?_)
    rw [zh_in hi6] at hr
    subst hr
    rw [hu1]
    by_cases hij : i = j0
    rotate_left
    · rw [hbef i (by omega)]
      refine g_ifne (tgt := 109) g dX0_bring_40 (by decide) (bI_0) (fun c6 => ?_) (fun c6 => ?_)
      · refine g_iinc g dX0_bring_109 rfl (n_inc _) ?_
        refine g_goto (tgt := 27) g dX0_bring_112 (by decide) ?_
        exact ih (by omega)
      · cases c6
    subst hij
    rw [hat hi6]
    refine g_ifne (tgt := 109) g dX0_bring_40 (by decide) (bI_0) (fun c6 => ?_) (fun c6 => ?_)
    · exact absurd rfl c6
    refine g_aload_n g dX0_bring_43 rfl rfl ?_
    refine g_dup g dX0_bring_44 rfl ?_
    refine dk_get0 g k dX0_bring_45 ?_
    refine g_iconst (v := 1) g dX0_bring_48 (by decide) ?_
    refine g_iload g dX0_bring_49 rfl ?_
    refine g_ishl g dX0_bring_51 ?_
    refine g_ior g dX0_bring_52 ?_
    refine dk_put0 g k dX0_bring_53 ?_
    refine g_aload_n g dX0_bring_56 rfl rfl ?_
    refine dk_get1 g k dX0_bring_57 ?_
    refine g_iload g dX0_bring_60 rfl ?_
    refine g_iload_n g dX0_bring_62 rfl rfl ?_
    refine g_i2b g dX0_bring_63 (n_b2 _ (by omega)) ?_
    refine dk_st1 g k dX0_bring_64 (rfl) (hi6) (n_nb _ (by omega)) ?_
    refine g_aload_n g dX0_bring_65 rfl rfl ?_
    refine dk_get2 g k dX0_bring_66 ?_
    refine g_iload g dX0_bring_69 rfl ?_
    refine g_iload_n g dX0_bring_71 rfl rfl ?_
    refine g_i2b g dX0_bring_72 (n_b2 _ (by omega)) ?_
    refine dk_st2 g k dX0_bring_73 (rfl) (hi6) (n_nb _ (by omega)) ?_
    refine g_aload_n g dX0_bring_74 rfl rfl ?_
    refine g_iload g dX0_bring_75 rfl ?_
    refine g_iload_n g dX0_bring_77 rfl rfl ?_
    refine dk_call_unpack g k dX0_bring_78 (met_unpack l _ hi6 hx ha hb hw) (by decide) (Nat.le_of_ble_eq_true rfl) (fun u3 hu3 => ?_)
    have hD3 : zD (zbr σ (zth σ.1 i true) i p q a1 b1 w1) u3 := by
      rw [hu3]
      refine zD_unp (σ := (zth σ.1 i true, zup (zup σ.2.1 1 i p) 2 i q, σ.2.2)) ⟨?_, fun y hy => ?_⟩
      · exact zA_f (σ := (zth σ.1 i true, zup σ.2.1 1 i p, σ.2.2)) (zA_f (σ := (zth σ.1 i true, σ.2.1, σ.2.2)) (zA_i (zA_th hu.1) (by decide)))
      · rw [dF_1, dF_1, dI_1, if_pos rfl, b_set (by omega) hy, hu.2 y hy]
        unfold zth
        by_cases hyi : y = i
        · simp [hyi, hi6]
        · simp [hyi]
    have h14 : u3.1 14 = 0 := by rw [hu3, dI_1, if_pos rfl]
    refine g_aload_n g dX0_bring_81 rfl rfl ?_
    refine dk_call_possible g k dX0_bring_82 (met_possible l (zbr_ok hs (by omega) hq ha hb hw) hD3) (by decide) (Nat.le_of_ble_eq_true rfl) (fun r u4 ⟨hf4, hr⟩ => ?_)
    have hD4 := hD3.fr hf4 (by decide) (by decide)
    rcases hr with ⟨rfl, hfit⟩ | ⟨rfl, hfit⟩
    · refine g_ifeq (tgt := 91) g dX0_bring_85 (by decide) (Iff.rfl) (fun c7 => ?_) (fun c7 => ?_)
      · exact absurd c7 (by decide)
      · refine g_iload g dX0_bring_88 rfl ?_
        exact ret _ _ _ _ dX0_bring_90 (⟨fun y => by omega, fun _ => ⟨fun _ => ⟨rfl, hD4, (hf4.1 14 (by decide)).trans h14⟩, fun y => absurd hfit y⟩⟩)
    · refine g_ifeq (tgt := 91) g dX0_bring_85 (by decide) (Iff.rfl) (fun c7 => ?_) (fun c7 => ?_)
      rotate_left
      · exact absurd rfl c7
      refine g_aload_n g dX0_bring_91 rfl rfl ?_
      refine g_dup g dX0_bring_92 rfl ?_
      refine dk_get0 g k dX0_bring_93 ?_
      refine g_iconst (v := 1) g dX0_bring_96 (by decide) ?_
      refine g_iload g dX0_bring_97 rfl ?_
      refine g_ishl g dX0_bring_99 ?_
      refine g_iconst (v := (-1)) g dX0_bring_100 (by decide) ?_
      refine g_ixor g dX0_bring_101 ?_
      refine g_iand g dX0_bring_102 ?_
      refine dk_put0 g k dX0_bring_103 ?_
      refine g_bipush (v := (-3)) g dX0_bring_106 (by decide) ?_
      refine ret _ _ _ _ dX0_bring_108 (⟨fun y => by omega, fun _ => ⟨fun y => absurd y hfit, fun _ => ⟨rfl, ?_, by rw [dI_1, if_neg (by decide)]; exact (hf4.1 14 (by decide)).trans h14⟩⟩⟩)
      refine ⟨zA_i (zA_th (th := σ.1) hD4.1) (by decide), fun y hy => ?_⟩
      rw [dI_1, if_pos rfl, b_clr (by omega) hy, hD4.2 y hy]
      unfold zbr zth
      by_cases hyi : y = i
      · subst hyi; simp [hat hi6]
      · simp [hyi]
  exact loop 0 (by omega)
end
section
/-! Desk: span, count, loss, kept, at, greatestMust, lossWithout, freeable, idle -/
theorem met_count (l : Launch) (u : dS) (x : Int32) : gSi dkC l yX0_count cX0_count 3 (some .int) (gR 0 0) [.int x] u (fun r u' => u' = u ∧ r = nI (zs (fun t => (bt x t).toNat) 24)) := by
  refine gSi_of (by decide +kernel) (Nat.le_of_ble_eq_true rfl) cat1 ?_
  intro E a g k ret
  refine g_loc (lv' := [some (.int x), none, none]) rfl ?_
  refine g_iconst (v := nI 0) g dX0_count_0 (by decide) ?_
  refine g_istore_n g dX0_count_1 rfl (Nat.le_of_ble_eq_true rfl) ?_
  refine g_iconst (v := nI 0) g dX0_count_2 (by decide) ?_
  refine g_istore_n g dX0_count_3 rfl (Nat.le_of_ble_eq_true rfl) ?_
  have loop : ∀ i, i ≤ 24 → gG E 4 [some (.int x), some (.int (nI (zs (fun t => (bt x t).toNat) i))), some (.int (nI i))] [] u := by
    refine zdown 24 (fun i hi ih => ?_)
    refine g_iload_n g dX0_count_4 rfl rfl ?_
    refine g_bipush (v := nI 24) g dX0_count_5 (by decide) ?_
    refine g_cmpge (tgt := 24) g dX0_count_7 (by decide) (nI_leI (by omega) (by omega)) (fun c => ?_) (fun c => ?_)
    · have : i = 24 := by omega
      subst this
      refine g_iload_n g dX0_count_24 rfl rfl ?_
      exact ret _ _ _ _ dX0_count_25 (⟨rfl, rfl⟩)
    refine g_iload_n g dX0_count_10 rfl rfl ?_
    refine g_iload_n g dX0_count_11 rfl rfl ?_
    refine g_iload_n g dX0_count_12 rfl rfl ?_
    refine g_ishr g dX0_count_13 ?_
    refine g_iconst (v := 1) g dX0_count_14 (by decide) ?_
    refine g_iand g dX0_count_15 ?_
    refine g_top (b_get (by omega)) ?_
    rw [bI_n]
    refine g_iadd g dX0_count_16 ?_
    rw [nI_add]
    refine g_istore_n g dX0_count_17 rfl (Nat.le_of_ble_eq_true rfl) ?_
    refine g_iinc g dX0_count_18 rfl (n_inc _) ?_
    refine g_goto (tgt := 4) g dX0_count_21 (by decide) ?_
    exact ih (by omega)
  exact loop 0 (by omega)
theorem met_span (l : Launch) (u : dS) {p q : Nat} (hpq : p < q) (hq : q ≤ 24) : gSi dkC l yX0_span cX0_span 2 (some .int) (gR 0 0) [.int (nI p), .int (nI q)] u (fun r u' => u' = u ∧ ∀ t, t < 32 → bt r t = (decide (p ≤ t) && decide (t < q))) := by
  refine gSi_of (by decide +kernel) (Nat.le_of_ble_eq_true rfl) cat2 ?_
  intro E a g k ret
  refine g_loc (lv' := [some (.int (nI p)), some (.int (nI q))]) rfl ?_
  refine g_iconst (v := 1) g dX0_span_0 (by decide) ?_
  refine g_iload_n g dX0_span_1 rfl rfl ?_
  refine g_ishl g dX0_span_2 ?_
  refine g_iconst (v := 1) g dX0_span_3 (by decide) ?_
  refine g_isub g dX0_span_4 ?_
  refine g_iconst (v := 1) g dX0_span_5 (by decide) ?_
  refine g_iload_n g dX0_span_6 rfl rfl ?_
  refine g_ishl g dX0_span_7 ?_
  refine g_iconst (v := 1) g dX0_span_8 (by decide) ?_
  refine g_isub g dX0_span_9 ?_
  refine g_iconst (v := (-1)) g dX0_span_10 (by decide) ?_
  refine g_ixor g dX0_span_11 ?_
  refine g_iand g dX0_span_12 ?_
  refine ret _ _ _ _ dX0_span_13 (⟨rfl, fun t ht => ?_⟩)
  rw [b_and, b_not ht, b_low q (by omega) t ht, b_low p (by omega) t ht]
  by_cases h1 : t < p
  · simp [h1, show ¬ p ≤ t by omega]
  · simp [h1, show p ≤ t by omega]
theorem met_loss (l : Launch) {σ : zT} {u : dS} (hs : zOk σ) (hu : zD σ u) (hfit : zfit σ) (hk : zKn σ u) : gMi dkC l yX0_loss cX0_loss 1 (some .int) (gR 7 159) [] u (fun r u' => zD σ u' ∧ u'.1 14 = 1 ∧ zCa σ u' ∧ r = u'.1 15) := by
  refine gMi_of (by decide +kernel) (Nat.le_of_ble_eq_true rfl) cat0 ?_
  intro E a g k ret
  refine g_loc (lv' := [some (.ref (a 0))]) rfl ?_
  refine g_aload_n g dX0_loss_0 rfl rfl ?_
  refine dk_call_learn g k dX0_loss_1 (met_learn l hs hu hfit hk) (by decide) (Nat.le_of_ble_eq_true rfl) (fun u1 ⟨hf, h14, hc⟩ => ?_)
  refine g_aload_n g dX0_loss_4 rfl rfl ?_
  refine dk_get15 g k dX0_loss_5 ?_
  exact ret _ _ _ _ dX0_loss_8 (⟨hu.fr hf (by decide) (by decide), h14, hc, rfl⟩)
theorem met_kept (l : Launch) {σ : zT} {u : dS} (hs : zOk σ) (hu : zD σ u) (hfit : zfit σ) (hk : zKn σ u) (x : Int32) : gMi dkC l yX0_kept cX0_kept 2 (some .int) (gR 7 159) [.int x] u (fun r u' => (zh σ.1 x = false → r = -1 ∧ u' = u) ∧ ∀ j, j < 6 → x = nI j → σ.1 j = true → zD σ u' ∧ u'.1 14 = 1 ∧ zCa σ u' ∧ r = u'.2 16 j) := by
  refine gMi_of (by decide +kernel) (Nat.le_of_ble_eq_true rfl) cat1 ?_
  intro E a g k ret
  refine g_loc (lv' := [some (.ref (a 0)), some (.int x)]) rfl ?_
  refine g_aload_n g dX0_kept_0 rfl rfl ?_
  refine g_iload_n g dX0_kept_1 rfl rfl ?_
  refine dk_call_has g k dX0_kept_2 (met_has l hu x) (by decide) (Nat.le_of_ble_eq_true rfl) (fun r u1 ⟨hu1, hr⟩ => ?_)
  subst hu1 hr
  refine g_ifne (tgt := 10) g dX0_kept_5 (by decide) (bI_0) (fun c => ?_) (fun c => ?_)
  rotate_left
  · refine g_iconst (v := (-1)) g dX0_kept_8 (by decide) ?_
    exact ret _ _ _ _ dX0_kept_9 (⟨fun _ => ⟨rfl, rfl⟩, fun j hj hx hth => by rw [hx, zh_in hj, hth] at c; cases c⟩)
  obtain ⟨j, hj, rfl⟩ : ∃ j, j < 6 ∧ x = nI j := by
    rcases n_in x 6 (by decide) with h | h
    · exact absurd (zh_out h) c
    · exact h
  refine g_aload_n g dX0_kept_10 rfl rfl ?_
  refine dk_call_learn g k dX0_kept_11 (met_learn l hs hu hfit hk) (by decide) (Nat.le_of_ble_eq_true rfl) (fun u2 ⟨hf, h14, hc⟩ => ?_)
  refine g_aload_n g dX0_kept_14 rfl rfl ?_
  refine dk_get16 g k dX0_kept_15 ?_
  refine g_iload_n g dX0_kept_18 rfl rfl ?_
  refine dk_ld16 g k dX0_kept_19 (rfl) (hj) ?_
  exact ret _ _ _ _ dX0_kept_20 (⟨fun z => absurd z c, fun i hi hij hth => ⟨hu.fr hf (by decide) (by decide), h14, hc, by rw [(nI_eq (show j < 2 ^ 31 by omega) (show i < 2 ^ 31 by omega)).mp hij]⟩⟩)
theorem met_at (l : Launch) {σ : zT} {u : dS} (hs : zOk σ) (hu : zD σ u) (hfit : zfit σ) (hk : zKn σ u) (x : Int32) : gMi dkC l yX0_at cX0_at 2 (some .int) (gR 7 159) [.int x] u (fun r u' => ((x < 0 ∨ nI 24 ≤ x) → r = -1 ∧ u' = u) ∧ ∀ t, t < 24 → x = nI t → zD σ u' ∧ u'.1 14 = 1 ∧ zCa σ u' ∧ r = u'.2 17 t) := by
  refine gMi_of (by decide +kernel) (Nat.le_of_ble_eq_true rfl) cat1 ?_
  intro E a g k ret
  refine g_loc (lv' := [some (.ref (a 0)), some (.int x)]) rfl ?_
  refine g_iload_n g dX0_at_0 rfl rfl ?_
  refine g_iflt (tgt := 10) g dX0_at_1 (by decide) (Iff.rfl) (fun c1 => ?_) (fun c1 => ?_)
  · refine g_iconst (v := (-1)) g dX0_at_10 (by decide) ?_
    exact ret _ _ _ _ dX0_at_11 (⟨fun _ => ⟨rfl, rfl⟩, fun t ht hx => absurd c1 (by rw [hx]; exact nI_pos (by omega))⟩)
  refine g_iload_n g dX0_at_4 rfl rfl ?_
  refine g_bipush (v := nI 24) g dX0_at_5 (by decide) ?_
  refine g_cmplt (tgt := 12) g dX0_at_7 (by decide) (Iff.rfl) (fun c2 => ?_) (fun c2 => ?_)
  rotate_left
  · refine g_iconst (v := (-1)) g dX0_at_10 (by decide) ?_
    exact ret _ _ _ _ dX0_at_11 (⟨fun _ => ⟨rfl, rfl⟩, fun t ht hx => absurd (by rw [hx]; exact nI_lt ht (by omega)) c2⟩)
  obtain ⟨t, ht, rfl⟩ : ∃ t, t < 24 ∧ x = nI t := by
    rcases n_in x 24 (by decide) with (h | h) | h
    · exact absurd h c1
    · rw [Int32.lt_iff_toInt_lt] at c2; rw [Int32.le_iff_toInt_le] at h; omega
    · exact h
  have bad : ¬ (nI t < 0 ∨ nI 24 ≤ nI t) := by
    rintro (z | z)
    · exact c1 z
    · rw [nI_leI (by omega) (by omega)] at z; omega
  refine g_aload_n g dX0_at_12 rfl rfl ?_
  refine dk_call_learn g k dX0_at_13 (met_learn l hs hu hfit hk) (by decide) (Nat.le_of_ble_eq_true rfl) (fun u2 ⟨hf, h14, hc⟩ => ?_)
  refine g_aload_n g dX0_at_16 rfl rfl ?_
  refine dk_get17 g k dX0_at_17 ?_
  refine g_iload_n g dX0_at_20 rfl rfl ?_
  refine dk_ld17 g k dX0_at_21 (rfl) (ht) ?_
  exact ret _ _ _ _ dX0_at_22 (⟨fun z => absurd z bad, fun i hi hij => ⟨hu.fr hf (by decide) (by decide), h14, hc, by rw [(nI_eq (show t < 2 ^ 31 by omega) (show i < 2 ^ 31 by omega)).mp hij]⟩⟩)
/-- the musts with m for the task j fit -/
def zgm (σ : zT) (j m : Nat) : Prop := zhall (zed σ σ.2.2) (fun i => if i = j then m else zmu σ i)
theorem met_greatestMust (l : Launch) {σ : zT} {u : dS} (hs : zOk σ) (hu : zD σ u) (hfit : zfit σ) (x : Int32) : gMi dkC l yX0_greatestMust cX0_greatestMust 3 (some .int) (gR 5 112) [.int x] u (fun r u' => (zh σ.1 x = false → r = -1 ∧ u' = u) ∧ ∀ j, j < 6 → x = nI j → σ.1 j = true → dFr [7, 9, 11] [8, 10, 12, 13] u u' ∧ ∃ n, n ≤ 6 ∧ r = nI n ∧ zgm σ j n ∧ (n < 6 → ¬ zgm σ j (n + 1))) := by
  refine gMi_of (by decide +kernel) (Nat.le_of_ble_eq_true rfl) cat1 ?_
  intro E a g k ret
  refine g_loc (lv' := [some (.ref (a 0)), some (.int x), none]) rfl ?_
  refine g_aload_n g dX0_greatestMust_0 rfl rfl ?_
  refine g_iload_n g dX0_greatestMust_1 rfl rfl ?_
  refine dk_call_has g k dX0_greatestMust_2 (met_has l hu x) (by decide) (Nat.le_of_ble_eq_true rfl) (fun r u1 ⟨hu1, hr⟩ => ?_)
  subst hu1 hr
  refine g_ifne (tgt := 10) g dX0_greatestMust_5 (by decide) (bI_0) (fun c => ?_) (fun c => ?_)
  rotate_left
  · refine g_iconst (v := (-1)) g dX0_greatestMust_8 (by decide) ?_
    exact ret _ _ _ _ dX0_greatestMust_9 (⟨fun _ => ⟨rfl, rfl⟩, fun j hj hx hth => by rw [hx, zh_in hj, hth] at c; cases c⟩)
  obtain ⟨j, hj, rfl⟩ : ∃ j, j < 6 ∧ x = nI j := by
    rcases n_in x 6 (by decide) with h | h
    · exact absurd (zh_out h) c
    · exact h
  rw [zh_in hj] at c
  have hth : σ.1 j = true := eq_true_of_ne_false c
  have hbd := hs j hj
  have hmu : zmu σ j = σ.2.1 3 j := by unfold zmu; rw [hth]; rfl
  refine g_aload_n g dX0_greatestMust_10 rfl rfl ?_
  refine g_aload_n g dX0_greatestMust_11 rfl rfl ?_
  refine dk_get6 g k dX0_greatestMust_12 ?_
  refine dk_call_begin g k dX0_greatestMust_15 (met_begin l _ _) (by decide) (Nat.le_of_ble_eq_true rfl) (fun u2 ⟨hf2, h7, h8⟩ => ?_)
  rw [hu.1.2] at h7
  have hu2 : zD σ u2 := hu.fr hf2 (by decide) (by decide)
  have hF2 : dFr [7, 9, 11] [8, 10, 12, 13] u1 u2 := hf2.up (by decide) (by decide)
  refine g_aload_n g dX0_greatestMust_18 rfl rfl ?_
  refine dk_call_giveMusts g k dX0_greatestMust_19 (met_giveMusts l hs hu2 (zAs.zero h8)) (by decide) (Nat.le_of_ble_eq_true rfl) (fun r u3 ⟨hf3, hr⟩ => ?_)
  rw [h7] at hr
  have hA : zAs σ u3 (zmu σ) := by
    rcases hr with ⟨-, h⟩ | ⟨-, h⟩
    · exact h
    · exact absurd hfit h
  have hF3 : dFr [7, 9, 11] [8, 10, 12, 13] u1 u3 := hF2.tr (hf3.up (by decide) (by decide))
  have hu3 : zD σ u3 := hu.fr hF3 (by decide) (by decide)
  have h73 : u3.1 7 = σ.2.2 := (hf3.1 7 (by decide)).trans h7
  refine g_pop g dX0_greatestMust_22 rfl ?_
  refine g_aload_n g dX0_greatestMust_23 rfl rfl ?_
  refine dk_get3 g k dX0_greatestMust_24 ?_
  refine g_iload_n g dX0_greatestMust_27 rfl rfl ?_
  refine dk_ld3 g k dX0_greatestMust_28 (rfl) (hj) ?_
  rw [hu3.1.1 3 (by omega) (by omega) j hj]
  refine g_istore_n g dX0_greatestMust_29 rfl (Nat.le_of_ble_eq_true rfl) ?_
  have key : ∀ n, σ.2.1 3 j ≤ n → ∀ i, i < 6 → zadd (zmu σ) j (n - σ.2.1 3 j) i = if i = j then n else zmu σ i := fun n hn i hi => by
    unfold zadd
    by_cases h : i = j
    · subst h; simp only [if_true]; omega
    · simp only [h, if_false]
  have loop : ∀ n, n ≤ 6 → σ.2.1 3 j ≤ n → ∀ u4 : dS, dFr [9, 11] [8, 10, 12, 13] u3 u4 → zAs σ u4 (zadd (zmu σ) j (n - σ.2.1 3 j)) → gG E 30 [some (.ref (a 0)), some (.int (nI j)), some (.int (nI n))] [] u4 := by
    refine zdown 6 (fun n hn ih hmn u4 hf4 hA4 => ?_)
    have h74 : u4.1 7 = σ.2.2 := (hf4.1 7 (by decide)).trans h73
    have hF4 : dFr [7, 9, 11] [8, 10, 12, 13] u1 u4 := hF3.tr (hf4.up (by decide) (by decide))
    have hu4 : zD σ u4 := hu.fr hF4 (by decide) (by decide)
    have hg : zgm σ j n := by
      have := hA4.hall
      rw [h74] at this
      exact (zhall_cg (key n hmn)).mp this
    have fin : ∀ u5 : dS, dFr [7, 9, 11] [8, 10, 12, 13] u1 u5 → (n < 6 → ¬ zgm σ j (n + 1)) → gG E 50 [some (.ref (a 0)), some (.int (nI j)), some (.int (nI n))] [] u5 := by
      intro u5 hF5 hno
      refine g_iload_n g dX0_greatestMust_50 rfl rfl ?_
      refine ret _ _ _ _ dX0_greatestMust_51 (⟨fun z => by rw [zh_in hj] at z; exact absurd z c, fun i hi hij _ => ⟨hF5, n, hn, rfl, ?_⟩⟩)
      have : j = i := (nI_eq (by omega) (by omega)).mp hij
      subst this
      exact ⟨hg, hno⟩
    refine g_iload_n g dX0_greatestMust_30 rfl rfl ?_
    refine g_bipush (v := nI 6) g dX0_greatestMust_31 (by decide) ?_
    refine g_cmpge (tgt := 50) g dX0_greatestMust_33 (by decide) (nI_leI (by omega) (by omega)) (fun c2 => ?_) (fun c2 => ?_)
    · exact fin u4 hF4 (fun z => absurd z (by omega))
    refine g_aload_n g dX0_greatestMust_36 rfl rfl ?_
    refine g_iload_n g dX0_greatestMust_37 rfl rfl ?_
    refine dk_call_give g k dX0_greatestMust_38 (met_giveW l hs hu4.1 hA4 hj) (by decide) (Nat.le_of_ble_eq_true rfl) (fun r u5 ⟨hf5, hr⟩ => ?_)
    rw [h74] at hr
    have hz : ∀ q, q < 6 → zadd (zadd (zmu σ) j (n - σ.2.1 3 j)) j 1 q = zadd (zmu σ) j (n + 1 - σ.2.1 3 j) q := fun q hq => by rw [zadd_zadd, show n - σ.2.1 3 j + 1 = n + 1 - σ.2.1 3 j by omega]
    rcases hr with ⟨rfl, h⟩ | ⟨rfl, -, h⟩
    · refine g_ifeq (tgt := 50) g dX0_greatestMust_41 (by decide) (Iff.rfl) (fun c3 => ?_) (fun c3 => ?_)
      · exact absurd c3 (by decide)
      · refine g_iinc g dX0_greatestMust_44 rfl (n_inc _) ?_
        refine g_goto (tgt := 30) g dX0_greatestMust_47 (by decide) ?_
        exact ih (by omega) (by omega) u5 (hf4.tr hf5) (h.cg hz)
    · refine g_ifeq (tgt := 50) g dX0_greatestMust_41 (by decide) (Iff.rfl) (fun c3 => ?_) (fun c3 => ?_)
      · exact fin u5 (hF4.tr (hf5.up (by decide) (by decide))) (fun _ z => h ((zhall_cg hz).mpr ((zhall_cg (key (n + 1) (by omega))).mpr z)))
      · exact absurd rfl c3
  exact loop _ (by omega) (Nat.le_refl _) u3 dFr.rf (hA.cg (fun i _ => by unfold zadd; split <;> omega))
theorem met_lossWithout (l : Launch) {σ : zT} {u : dS} {od : Nat → Nat} {m0 : Nat} (hs : zOk σ) (hu : zD σ u) (hO : zOrd σ od m0) (x : Int32) : gMi dkC l yX0_lossWithout cX0_lossWithout 3 (some .int) (gR 6 138) [.int x] u (fun r u' => ((x < 0 ∨ nI 24 ≤ x) → r = -1 ∧ u' = u) ∧ ∀ t, t < 24 → x = nI t → zD σ u' ∧ u'.1 14 = 0 ∧ ((r = -1 ∧ ¬ zhall (zed σ (zbl σ.2.2 t true)) (zmu σ)) ∨ ∃ K, zGr (zed σ (zbl σ.2.2 t true)) (zmu σ) (σ.2.1 4) od m0 K ∧ r = nI (zlost σ K))) := by
  refine gMi_of (by decide +kernel) (Nat.le_of_ble_eq_true rfl) cat1 ?_
  intro E a g k ret
  refine g_loc (lv' := [some (.ref (a 0)), some (.int x), none]) rfl ?_
  refine g_iload_n g dX0_lossWithout_0 rfl rfl ?_
  refine g_iflt (tgt := 10) g dX0_lossWithout_1 (by decide) (Iff.rfl) (fun c1 => ?_) (fun c1 => ?_)
  · refine g_iconst (v := (-1)) g dX0_lossWithout_10 (by decide) ?_
    exact ret _ _ _ _ dX0_lossWithout_11 (⟨fun _ => ⟨rfl, rfl⟩, fun t ht hx => absurd c1 (by rw [hx]; exact nI_pos (by omega))⟩)
  refine g_iload_n g dX0_lossWithout_4 rfl rfl ?_
  refine g_bipush (v := nI 24) g dX0_lossWithout_5 (by decide) ?_
  refine g_cmplt (tgt := 12) g dX0_lossWithout_7 (by decide) (Iff.rfl) (fun c2 => ?_) (fun c2 => ?_)
  rotate_left
  · refine g_iconst (v := (-1)) g dX0_lossWithout_10 (by decide) ?_
    exact ret _ _ _ _ dX0_lossWithout_11 (⟨fun _ => ⟨rfl, rfl⟩, fun t ht hx => absurd (by rw [hx]; exact nI_lt ht (by omega)) c2⟩)
  obtain ⟨t, ht, rfl⟩ : ∃ t, t < 24 ∧ x = nI t := by
    rcases n_in x 24 (by decide) with (h | h) | h
    · exact absurd h c1
    · rw [Int32.lt_iff_toInt_lt] at c2; rw [Int32.le_iff_toInt_le] at h; omega
    · exact h
  have bad : ¬ (nI t < 0 ∨ nI 24 ≤ nI t) := by
    rintro (z | z)
    · exact c1 z
    · rw [nI_leI (by omega) (by omega)] at z; omega
  have hu0 : zD σ (dI u 14 (nI 0)) := ⟨zA_i hu.1 (by decide), fun q hq => by rw [dI_1, if_neg (by decide)]; exact hu.2 q hq⟩
  refine g_aload_n g dX0_lossWithout_12 rfl rfl ?_
  refine g_iconst (v := nI 0) g dX0_lossWithout_13 (by decide) ?_
  refine dk_put14 g k dX0_lossWithout_14 (Or.inl rfl) ?_
  refine g_aload_n g dX0_lossWithout_17 rfl rfl ?_
  refine g_aload_n g dX0_lossWithout_18 rfl rfl ?_
  refine dk_get6 g k dX0_lossWithout_19 ?_
  refine g_iconst (v := 1) g dX0_lossWithout_22 (by decide) ?_
  refine g_iload_n g dX0_lossWithout_23 rfl rfl ?_
  refine g_ishl g dX0_lossWithout_24 ?_
  refine g_ior g dX0_lossWithout_25 ?_
  refine dk_call_leastLossWith g k dX0_lossWithout_26 (met_leastLossWith l hs hu0 hO _) (by decide) (Nat.le_of_ble_eq_true rfl) (fun r u1 ⟨hf, hr⟩ => ?_)
  have e6 : (dI u 14 (nI 0)).1 6 = σ.2.2 := hu0.1.2
  rw [e6] at hr
  have hu1 : zD σ u1 := hu0.fr hf (by decide) (by decide)
  have h14 : u1.1 14 = 0 := by rw [hf.1 14 (by decide), dI_1, if_pos rfl]; rfl
  rcases hr with ⟨rfl, h⟩ | ⟨K, hG, hK, rfl⟩
  · refine g_istore_n g dX0_lossWithout_29 rfl (Nat.le_of_ble_eq_true rfl) ?_
    refine g_iload_n g dX0_lossWithout_30 rfl rfl ?_
    refine g_ifge (tgt := 38) g dX0_lossWithout_31 (by decide) ((show ((0 : Int32) ≤ -1) ↔ False by decide)) (fun c3 => ?_) (fun c3 => ?_)
    · exact c3.elim
    · refine g_iconst (v := (-1)) g dX0_lossWithout_34 (by decide) ?_
      refine g_goto (tgt := 39) g dX0_lossWithout_35 (by decide) ?_
      refine ret _ _ _ _ dX0_lossWithout_39 (⟨fun z => absurd z bad, fun i hi hij => ⟨hu1, h14, Or.inl ⟨rfl, ?_⟩⟩⟩)
      have : t = i := (nI_eq (by omega) (by omega)).mp hij
      subst this
      exact h
  · have hlt : zlost σ K < 2 ^ 31 := by
      have : zlost σ K ≤ 6 * 54 := zs_bound (fun j hj => by
        have := hs j hj
        split
        · exact Nat.le_trans (Nat.mul_le_mul (show σ.2.1 5 j ≤ 9 by omega) (show σ.2.1 4 j - K j ≤ 6 by omega)) (by omega)
        · omega)
      omega
    refine g_istore_n g dX0_lossWithout_29 rfl (Nat.le_of_ble_eq_true rfl) ?_
    refine g_iload_n g dX0_lossWithout_30 rfl rfl ?_
    refine g_ifge (tgt := 38) g dX0_lossWithout_31 (by decide) (n_lt0' hlt) (fun c3 => ?_) (fun c3 => ?_)
    · refine g_iload_n g dX0_lossWithout_38 rfl rfl ?_
      refine ret _ _ _ _ dX0_lossWithout_39 (⟨fun z => absurd z bad, fun i hi hij => ⟨hu1, h14, Or.inr ⟨K, ?_, rfl⟩⟩⟩)
      have : t = i := (nI_eq (by omega) (by omega)).mp hij
      subst this
      exact hG
    · exact absurd trivial c3
theorem n_subs (x : Int32) (a b : Nat) : x - nI a - nI b = x - nI (a + b) := by
  rw [← nI_add]
  grind
theorem zmap_le {f g : Nat → Nat} (h : ∀ i, i < 6 → f i = g i) : ∀ n, n ≤ 6 → zs f n = zs g n := fun n hn => zs_congr (fun i hi => h i (by omega))
theorem met_idle (l : Launch) {σ : zT} {u : dS} (hs : zOk σ) (hu : zD σ u) (hfit : zfit σ) (hk : zKn σ u) : gMi dkC l yX0_idle cX0_idle 3 (some .int) (gR 7 159) [] u (fun r u' => zD σ u' ∧ u'.1 14 = 1 ∧ ∃ (od : Nat → Nat) (m0 : Nat) (K : Nat → Nat), zCa σ u' ∧ zOrd σ od m0 ∧ zGr (zed σ σ.2.2) (zmu σ) (σ.2.1 4) od m0 K ∧ r = nI 24 - nI (zs (fun t => (bt σ.2.2 t).toNat) 24) - nI (zs (zw0 σ K) 6)) := by
  refine gMi_of (by decide +kernel) (Nat.le_of_ble_eq_true rfl) cat0 ?_
  intro E a g k ret
  refine g_loc (lv' := [some (.ref (a 0)), none, none]) rfl ?_
  refine g_aload_n g dX0_idle_0 rfl rfl ?_
  refine dk_call_learn g k dX0_idle_1 (met_learn l hs hu hfit hk) (by decide) (Nat.le_of_ble_eq_true rfl) (fun u1 ⟨hf, h14, hc⟩ => ?_)
  have hu1 : zD σ u1 := hu.fr hf (by decide) (by decide)
  have hc' := hc
  obtain ⟨od, m0, K, p, W, hO, hG, hK, -, -, -⟩ := hc'
  refine g_bipush (v := nI 24) g dX0_idle_4 (by decide) ?_
  refine g_aload_n g dX0_idle_6 rfl rfl ?_
  refine dk_get6 g k dX0_idle_7 ?_
  rw [hu1.1.2]
  refine dk_call_count g k dX0_idle_10 (met_count l _ _) (by decide) (Nat.le_of_ble_eq_true rfl) (fun r u2 ⟨hu2, hr⟩ => ?_)
  refine g_isub g dX0_idle_13 ?_
  refine g_istore_n g dX0_idle_14 rfl (Nat.le_of_ble_eq_true rfl) ?_
  refine g_iconst (v := nI 0) g dX0_idle_15 (by decide) ?_
  refine g_istore_n g dX0_idle_16 rfl (Nat.le_of_ble_eq_true rfl) ?_
  subst hu2 hr
  have loop : ∀ i, i ≤ 6 → gG E 17 [some (.ref (a 0)), some (.int (nI 24 - nI (zs (fun t => (bt σ.2.2 t).toNat) 24) - nI (zs (zw0 σ K) i))), some (.int (nI i))] [] u2 := by
    refine zdown 6 (fun i hi ih => ?_)
    refine g_iload_n g dX0_idle_17 rfl rfl ?_
    refine g_bipush (v := nI 6) g dX0_idle_18 (by decide) ?_
    refine g_cmpge (tgt := 53) g dX0_idle_20 (by decide) (nI_leI (by omega) (by omega)) (fun c => ?_) (fun c => ?_)
    · have : i = 6 := by omega
      subst this
      refine g_iload_n g dX0_idle_53 rfl rfl ?_
      exact ret _ _ _ _ dX0_idle_54 (⟨hu1, h14, od, m0, K, hc, hO, hG, rfl⟩)
    have hi6 : i < 6 := by omega
    refine g_aload_n g dX0_idle_23 rfl rfl ?_
    refine g_iload_n g dX0_idle_24 rfl rfl ?_
    refine dk_call_has g k dX0_idle_25 (met_has l hu1 (nI i)) (by decide) (Nat.le_of_ble_eq_true rfl) (fun r u3 ⟨hu3, hr⟩ => ?_)
    rw [zh_in hi6] at hr
    subst hu3 hr
    refine g_ifeq (tgt := 47) g dX0_idle_28 (by decide) (bI_0) (fun c2 => ?_) (fun c2 => ?_)
    · refine g_iinc g dX0_idle_47 rfl (n_inc _) ?_
      refine g_goto (tgt := 17) g dX0_idle_50 (by decide) ?_
      have e : zs (zw0 σ K) (i + 1) = zs (zw0 σ K) i := by
        show zs (zw0 σ K) i + zw0 σ K i = _
        unfold zw0
        rw [c2]
        simp
      have := ih (by omega)
      rw [e] at this
      exact this
    have hth := eq_true_of_ne_false c2
    refine g_iload_n g dX0_idle_31 rfl rfl ?_
    refine g_aload_n g dX0_idle_32 rfl rfl ?_
    refine dk_get3 g k dX0_idle_33 ?_
    refine g_iload_n g dX0_idle_36 rfl rfl ?_
    refine dk_ld3 g k dX0_idle_37 (rfl) (hi6) ?_
    rw [hu1.1.1 3 (by omega) (by omega) i hi6]
    refine g_aload_n g dX0_idle_38 rfl rfl ?_
    refine dk_get16 g k dX0_idle_39 ?_
    refine g_iload_n g dX0_idle_42 rfl rfl ?_
    refine dk_ld16 g k dX0_idle_43 (rfl) (hi6) ?_
    rw [hK i hi6 hth]
    refine g_iadd g dX0_idle_44 ?_
    rw [nI_add]
    refine g_isub g dX0_idle_45 ?_
    refine g_top (n_subs _ _ _) ?_
    refine g_istore_n g dX0_idle_46 rfl (Nat.le_of_ble_eq_true rfl) ?_
    refine g_iinc g dX0_idle_47 rfl (n_inc _) ?_
    refine g_goto (tgt := 17) g dX0_idle_50 (by decide) ?_
    have e : zs (zw0 σ K) (i + 1) = zs (zw0 σ K) i + (σ.2.1 3 i + K i) := by
      show zs (zw0 σ K) i + zw0 σ K i = _
      congr 1
      unfold zw0
      rw [hth]
      rfl
    have := ih (by omega)
    rw [e] at this
    exact this
  have l0 := loop 0 (by omega)
  have e : nI 24 - nI (zs (fun t => (bt σ.2.2 t).toNat) 24) - nI (zs (zw0 σ K) 0) = nI 24 - nI (zs (fun t => (bt σ.2.2 t).toNat) 24) := by
    show _ - nI 0 = _
    rw [nI_0]
    grind
  rw [e] at l0
  exact l0
end
section
/-! Desk: freeable -/
def zeo (σ : zT) (p q j t : Nat) : Bool := zed σ σ.2.2 j t && !(decide (p ≤ t) && decide (t < q))
def zins (σ : zT) (p q : Nat) : Nat := zs (fun t => (decide (p ≤ t) && decide (t < q) && !bt σ.2.2 t).toNat) 24
def zfb (x y : Int32) : Prop := x < 0 ∨ nI 24 < y ∨ y ≤ x
theorem zeo_eq {σ : zT} {p q : Nat} {s : Int32} (hs : ∀ t, t < 32 → bt s t = (decide (p ≤ t) && decide (t < q))) {j t : Nat} (ht : t < 24) : zed σ (σ.2.2 ||| (s &&& (σ.2.2 ^^^ (-1)))) j t = zeo σ p q j t := by
  unfold zeo zed
  rw [b_or, b_and, b_not (by omega), hs t (by omega)]
  cases decide (σ.2.1 1 j ≤ t) <;> cases decide (t < σ.2.1 2 j) <;> cases bt σ.2.2 t <;> cases decide (p ≤ t) <;> cases decide (t < q) <;> rfl
/-- the numbers that can be given outside the span: as many as can be, task by task -/
def zfr (σ : zT) (p q : Nat) (w : Nat → Nat) : Prop := zhall (zeo σ p q) w ∧ ∀ j, j < 6 → w j ≤ zmu σ j ∧ (w j < zmu σ j → ∃ v : Nat → Nat, (∀ i, i < 6 → v i ≤ w i) ∧ ¬ zhall (zeo σ p q) (zadd v j 1))
theorem met_freeable_bad (l : Launch) (u : dS) (x y : Int32) (hbad : zfb x y) : gMi dkC l yX0_freeable cX0_freeable 9 (some .int) (gR 3 68) [.int x, .int y] u (fun r u' => r = -1 ∧ u' = u) := by
  refine gMi_of (by decide +kernel) (Nat.le_of_ble_eq_true rfl) cat2 ?_
  intro E a g k ret
  refine g_loc (lv' := [some (.ref (a 0)), some (.int x), some (.int y), none, none, none, none, none, none]) rfl ?_
  refine g_iload_n g dX0_freeable_0 rfl rfl ?_
  refine g_iflt (tgt := 15) g dX0_freeable_1 (by decide) (Iff.rfl) (fun c1 => ?_) (fun c1 => ?_)
  · refine g_iconst (v := (-1)) g dX0_freeable_15 (by decide) ?_
    exact ret _ _ _ _ dX0_freeable_16 (⟨rfl, rfl⟩)
  refine g_iload_n g dX0_freeable_4 rfl rfl ?_
  refine g_bipush (v := nI 24) g dX0_freeable_5 (by decide) ?_
  refine g_cmpgt (tgt := 15) g dX0_freeable_7 (by decide) (Iff.rfl) (fun c2 => ?_) (fun c2 => ?_)
  · refine g_iconst (v := (-1)) g dX0_freeable_15 (by decide) ?_
    exact ret _ _ _ _ dX0_freeable_16 (⟨rfl, rfl⟩)
  refine g_iload_n g dX0_freeable_10 rfl rfl ?_
  refine g_iload_n g dX0_freeable_11 rfl rfl ?_
  refine g_cmplt (tgt := 17) g dX0_freeable_12 (by decide) (Iff.rfl) (fun c3 => ?_) (fun c3 => ?_)
  rotate_left
  · refine g_iconst (v := (-1)) g dX0_freeable_15 (by decide) ?_
    exact ret _ _ _ _ dX0_freeable_16 (⟨rfl, rfl⟩)
  rcases hbad with z | z | z
  · exact absurd z c1
  · exact absurd z c2
  · rw [Int32.lt_iff_toInt_lt] at c3; rw [Int32.le_iff_toInt_le] at z; omega
set_option maxHeartbeats 1000000 in
theorem met_freeable (l : Launch) {σ : zT} {u : dS} {p q : Nat} (hs : zOk σ) (hu : zD σ u) (hpq : p < q) (hq : q ≤ 24) : gMi dkC l yX0_freeable cX0_freeable 9 (some .int) (gR 3 68) [.int (nI p), .int (nI q)] u (fun r u' => dFr [7, 9, 11] [8, 10, 12, 13] u u' ∧ ∃ w, zfr σ p q w ∧ r = nI (zins σ p q) - (nI (zs (zmu σ) 6) - nI (zs w 6))) := by
  refine gMi_of (by decide +kernel) (Nat.le_of_ble_eq_true rfl) cat2 ?_
  intro E a g k ret
  refine g_loc (lv' := [some (.ref (a 0)), some (.int (nI p)), some (.int (nI q)), none, none, none, none, none, none]) rfl ?_
  refine g_iload_n g dX0_freeable_0 rfl rfl ?_
  refine g_iflt (tgt := 15) g dX0_freeable_1 (by decide) (n_lt0 (by omega)) (fun c1 => ?_) (fun c1 => ?_)
  · exact c1.elim
  refine g_iload_n g dX0_freeable_4 rfl rfl ?_
  refine g_bipush (v := nI 24) g dX0_freeable_5 (by decide) ?_
  refine g_cmpgt (tgt := 15) g dX0_freeable_7 (by decide) (nI_ltI (by omega) (by omega)) (fun c2 => ?_) (fun c2 => ?_)
  · omega
  refine g_iload_n g dX0_freeable_10 rfl rfl ?_
  refine g_iload_n g dX0_freeable_11 rfl rfl ?_
  refine g_cmplt (tgt := 17) g dX0_freeable_12 (by decide) (nI_ltI (by omega) (by omega)) (fun c3 => ?_) (fun c3 => ?_)
  rotate_left
  · omega
  refine g_iload_n g dX0_freeable_17 rfl rfl ?_
  refine g_iload_n g dX0_freeable_18 rfl rfl ?_
  refine dk_call_span g k dX0_freeable_19 (met_span l _ hpq hq) (by decide) (Nat.le_of_ble_eq_true rfl) (fun sp u0 ⟨hu0, hsp⟩ => ?_)
  rw [hu0]
  refine g_aload_n g dX0_freeable_22 rfl rfl ?_
  refine dk_get6 g k dX0_freeable_23 ?_
  rw [hu.1.2]
  refine g_iconst (v := (-1)) g dX0_freeable_26 (by decide) ?_
  refine g_ixor g dX0_freeable_27 ?_
  refine g_iand g dX0_freeable_28 ?_
  refine g_istore_n g dX0_freeable_29 rfl (Nat.le_of_ble_eq_true rfl) ?_
  refine g_aload_n g dX0_freeable_30 rfl rfl ?_
  refine g_aload_n g dX0_freeable_31 rfl rfl ?_
  refine dk_get6 g k dX0_freeable_32 ?_
  rw [hu.1.2]
  refine g_iload_n g dX0_freeable_35 rfl rfl ?_
  refine g_ior g dX0_freeable_36 ?_
  refine dk_call_begin g k dX0_freeable_37 (met_begin l _ _) (by decide) (Nat.le_of_ble_eq_true rfl) (fun u1 ⟨hf1, h7, h8⟩ => ?_)
  refine g_iconst (v := nI 0) g dX0_freeable_40 (by decide) ?_
  refine g_istore g dX0_freeable_41 (Nat.le_of_ble_eq_true rfl) ?_
  refine g_iconst (v := nI 0) g dX0_freeable_43 (by decide) ?_
  refine g_istore g dX0_freeable_44 (Nat.le_of_ble_eq_true rfl) ?_
  refine g_iconst (v := nI 0) g dX0_freeable_46 (by decide) ?_
  refine g_istore g dX0_freeable_47 (Nat.le_of_ble_eq_true rfl) ?_
  have hF1 : dFr [7, 9, 11] [8, 10, 12, 13] u u1 := hf1.up (by decide) (by decide)
  have heo : ∀ j, j < 6 → ∀ t, t < 24 → zed σ (σ.2.2 ||| (sp &&& (σ.2.2 ^^^ (-1)))) j t = zeo σ p q j t := fun j _ t ht => zeo_eq hsp ht
  have hcnt : zs (fun t => (bt (sp &&& (σ.2.2 ^^^ (-1))) t).toNat) 24 = zins σ p q := zs_congr (fun t ht => by rw [b_and, b_not (by omega), hsp t (by omega)])
  generalize sp &&& (σ.2.2 ^^^ (-1)) = ins at h7 heo hcnt ⊢
  have loop : ∀ i, i ≤ 6 → ∀ (u2 : dS) (w : Nat → Nat), dFr [9, 11] [8, 10, 12, 13] u1 u2 → zAs σ u2 w → (∀ j, j < i → w j ≤ zmu σ j ∧ (w j < zmu σ j → ∃ v : Nat → Nat, (∀ i, i < 6 → v i ≤ w i) ∧ ¬ zhall (zeo σ p q) (zadd v j 1))) → (∀ j, i ≤ j → j < 6 → w j = 0) → gG E 49 [some (.ref (a 0)), some (.int (nI p)), some (.int (nI q)), some (.int ins), some (.int (nI (zs w 6))), some (.int (nI (zs (zmu σ) i))), some (.int (nI i)), none, none] [] u2 := by
    refine zdown 6 (fun i hi ih u2 w hf hA hw hw0 => ?_)
    have hF2 : dFr [7, 9, 11] [8, 10, 12, 13] u u2 := hF1.tr (hf.up (by decide) (by decide))
    have hu2 : zD σ u2 := hu.fr hF2 (by decide) (by decide)
    have h72 := (hf.1 7 (by decide)).trans h7
    refine g_iload g dX0_freeable_49 rfl ?_
    refine g_bipush (v := nI 6) g dX0_freeable_51 (by decide) ?_
    refine g_cmpge (tgt := 126) g dX0_freeable_53 (by decide) (nI_leI (by omega) (by omega)) (fun c4 => ?_) (fun c4 => ?_)
    · have : i = 6 := by omega
      subst this
      refine g_iload_n g dX0_freeable_126 rfl rfl ?_
      refine dk_call_count g k dX0_freeable_127 (met_count l _ _) (by decide) (Nat.le_of_ble_eq_true rfl) (fun r u3 ⟨hu3, hr⟩ => ?_)
      rw [hcnt] at hr
      subst hu3 hr
      refine g_iload g dX0_freeable_130 rfl ?_
      refine g_iload g dX0_freeable_132 rfl ?_
      refine g_isub g dX0_freeable_134 ?_
      refine g_isub g dX0_freeable_135 ?_
      exact ret _ _ _ _ dX0_freeable_136 (⟨hF2, w, ⟨by have := hA.hall; rw [h72] at this; exact (zhall_ed heo).mp this, hw⟩, rfl⟩)
    have hi6 : i < 6 := by omega
    have hbd := hs i hi6
    have hzm : zmu σ i ≤ 6 := by unfold zmu; split <;> omega
    have rest : gG E 76 [some (.ref (a 0)), some (.int (nI p)), some (.int (nI q)), some (.int ins), some (.int (nI (zs w 6))), some (.int (nI (zs (zmu σ) i))), some (.int (nI i)), none, none] [.int (nI (zmu σ i))] u2 := by
      refine g_istore g dX0_freeable_76 (Nat.le_of_ble_eq_true rfl) ?_
      refine g_iload g dX0_freeable_78 rfl ?_
      refine g_iload g dX0_freeable_80 rfl ?_
      refine g_iadd g dX0_freeable_82 ?_
      rw [nI_add]
      refine g_istore g dX0_freeable_83 (Nat.le_of_ble_eq_true rfl) ?_
      refine g_iconst (v := nI 0) g dX0_freeable_85 (by decide) ?_
      refine g_istore g dX0_freeable_86 (Nat.le_of_ble_eq_true rfl) ?_
      have inner : ∀ kk, kk ≤ zmu σ i → ∀ (u3 : dS) (m : Nat), dFr [9, 11] [8, 10, 12, 13] u1 u3 → zAs σ u3 (zadd w i m) → m ≤ kk → (m < kk → ¬ zhall (zeo σ p q) (zadd w i (m + 1))) → gG E 88 [some (.ref (a 0)), some (.int (nI p)), some (.int (nI q)), some (.int ins), some (.int (nI (zs w 6 + m))), some (.int (nI (zs (zmu σ) i + zmu σ i))), some (.int (nI i)), some (.int (nI (zmu σ i))), some (.int (nI kk))] [] u3 := by
        refine zdown _ (fun kk hkk ihk u3 m hf3 hA3 hm hno => ?_)
        have hF3 : dFr [7, 9, 11] [8, 10, 12, 13] u u3 := hF1.tr (hf3.up (by decide) (by decide))
        have hu3 : zD σ u3 := hu.fr hF3 (by decide) (by decide)
        have h73 := (hf3.1 7 (by decide)).trans h7
        refine g_iload g dX0_freeable_88 rfl ?_
        refine g_iload g dX0_freeable_90 rfl ?_
        refine g_cmpge (tgt := 120) g dX0_freeable_92 (by decide) (nI_leI (by omega) (by omega)) (fun c5 => ?_) (fun c5 => ?_)
        · have hkm : kk = zmu σ i := by omega
          refine g_iinc g dX0_freeable_120 rfl (n_inc _) ?_
          refine g_goto (tgt := 49) g dX0_freeable_123 (by decide) ?_
          refine g_forget 7 (g_forget 8 ?_)
          have hz6 : zs (zadd w i m) 6 = zs w 6 + m := zs_upd hi6
          have hwi := hw0 i (Nat.le_refl _) hi6
          have := ih hi6 u3 (zadd w i m) hf3 hA3 (fun j hj => ?_) (fun j h1 h2 => ?_)
          · rw [hz6] at this
            exact this
          · by_cases hji : j = i
            · subst hji
              have e1 : zadd w j m j = m := by unfold zadd; rw [if_pos rfl]; omega
              rw [e1]
              refine ⟨by omega, fun hlt => ⟨zadd w j m, fun _ _ => Nat.le_refl _, fun z => hno (by omega) ((zhall_cg (fun x _ => zadd_zadd w j m 1 x)).mp z)⟩⟩
            · have e1 : zadd w i m j = w j := by unfold zadd; rw [if_neg hji]
              rw [e1]
              obtain ⟨y1, y2⟩ := hw j (by omega)
              refine ⟨y1, fun hlt => ?_⟩
              obtain ⟨v, v1, v2⟩ := y2 hlt
              exact ⟨v, fun x hx => Nat.le_trans (v1 x hx) (zadd_ge w i m x), v2⟩
          · have : ¬ j = i := by omega
            unfold zadd
            rw [if_neg this]
            exact hw0 j (by omega) h2
        refine g_iload g dX0_freeable_95 rfl ?_
        refine g_aload_n g dX0_freeable_97 rfl rfl ?_
        refine g_iload g dX0_freeable_98 rfl ?_
        refine dk_call_give g k dX0_freeable_100 (met_giveW l hs hu3.1 hA3 hi6) (by decide) (Nat.le_of_ble_eq_true rfl) (fun r u4 ⟨hf4, hr⟩ => ?_)
        rw [h73] at hr
        rcases hr with ⟨rfl, h⟩ | ⟨rfl, h, hn⟩
        · have hmk : m = kk := by
            rcases Nat.lt_or_ge m kk with z | z
            · have y := h.hall
              rw [(hf4.1 7 (by decide)).trans h73] at y
              exact absurd ((zhall_cg (fun x _ => zadd_zadd w i m 1 x)).mp ((zhall_ed heo).mp y)) (hno z)
            · omega
          refine g_ifeq (tgt := 110) g dX0_freeable_103 (by decide) (Iff.rfl) (fun c6 => ?_) (fun c6 => ?_)
          · exact absurd c6 (by decide)
          refine g_iconst (v := nI 1) g dX0_freeable_106 (by decide) ?_
          refine g_goto (tgt := 111) g dX0_freeable_107 (by decide) ?_
          refine g_iadd g dX0_freeable_111 ?_
          rw [nI_add]
          refine g_istore g dX0_freeable_112 (Nat.le_of_ble_eq_true rfl) ?_
          refine g_iinc g dX0_freeable_114 rfl (n_inc _) ?_
          refine g_goto (tgt := 88) g dX0_freeable_117 (by decide) ?_
          exact ihk (by omega) u4 (m + 1) (hf3.tr hf4) (h.cg (fun x _ => zadd_zadd w i m 1 x)) (by omega) (fun z => absurd z (by omega))
        · refine g_ifeq (tgt := 110) g dX0_freeable_103 (by decide) (Iff.rfl) (fun c6 => ?_) (fun c6 => ?_)
          rotate_left
          · exact absurd rfl c6
          refine g_iconst (v := 0) g dX0_freeable_110 (by decide) ?_
          refine g_iadd g dX0_freeable_111 ?_
          refine g_top (v := nI (zs w 6 + m)) (nI_add (zs w 6 + m) 0) ?_
          refine g_istore g dX0_freeable_112 (Nat.le_of_ble_eq_true rfl) ?_
          refine g_iinc g dX0_freeable_114 rfl (n_inc _) ?_
          refine g_goto (tgt := 88) g dX0_freeable_117 (by decide) ?_
          exact ihk (by omega) u4 m (hf3.tr hf4) h (by omega) (fun _ z => hn ((zhall_cg (fun x _ => zadd_zadd w i m 1 x)).mpr ((zhall_ed heo).mpr z)))
      exact inner 0 (by omega) u2 0 hf (hA.cg (fun x _ => by unfold zadd; split <;> omega)) (by omega) (fun z => absurd z (by omega))
    refine g_aload_n g dX0_freeable_56 rfl rfl ?_
    refine g_iload g dX0_freeable_57 rfl ?_
    refine dk_call_has g k dX0_freeable_59 (met_has l hu2 (nI i)) (by decide) (Nat.le_of_ble_eq_true rfl) (fun r u3 ⟨hu3, hr⟩ => ?_)
    rw [zh_in hi6] at hr
    subst hr
    rw [hu3]
    refine g_ifeq (tgt := 75) g dX0_freeable_62 (by decide) (bI_0) (fun c5 => ?_) (fun c5 => ?_)
    · have e0 : zmu σ i = 0 := by unfold zmu; rw [c5]; rfl
      rw [e0] at rest
      refine g_iconst (v := nI 0) g dX0_freeable_75 (by decide) ?_
      exact rest
    · have e0 : zmu σ i = σ.2.1 3 i := by unfold zmu; rw [eq_true_of_ne_false c5]; rfl
      rw [e0] at rest
      refine g_aload_n g dX0_freeable_65 rfl rfl ?_
      refine dk_get3 g k dX0_freeable_66 ?_
      refine g_iload g dX0_freeable_69 rfl ?_
      refine dk_ld3 g k dX0_freeable_71 (rfl) (hi6) ?_
      rw [hu2.1.1 3 (by omega) (by omega) i hi6]
      refine g_goto (tgt := 76) g dX0_freeable_72 (by decide) ?_
      exact rest
  have e0 : zs (fun _ : Nat => 0) 6 = 0 := rfl
  exact loop 0 (by omega) u1 (fun _ => 0) dFr.rf (zAs.zero h8) (fun j hj => absurd hj (by omega)) (fun _ _ _ => rfl)
end
section
/-! Model: is, form, hold, covers, measure, can, fits -/
theorem bI_1 {b : Bool} : bI b = nI 1 ↔ b = true := by cases b <;> decide
theorem mot_is (l : Launch) {σ : zT} {u : dS} (hu : zM σ u) (x : Int32) : gMi moC l yX1_is cX1_is 2 (some .boolean) (gR 0 0) [.int x] u (fun r u' => u' = u ∧ r = bI (zh σ.1 x)) := by
  refine gMz_of (by decide +kernel) (Nat.le_of_ble_eq_true rfl) cat1 ?_
  intro E a g k ret
  refine g_loc (lv' := [some (.ref (a 0)), some (.int x)]) rfl ?_
  refine g_iload_n g dX1_is_0 rfl rfl ?_
  refine g_iflt (tgt := 23) g dX1_is_1 (by decide) (Iff.rfl) (fun c1 => ?_) (fun c1 => ?_)
  · refine g_iconst (v := 0) g dX1_is_23 (by decide) ?_
    exact ret _ _ _ _ dX1_is_24 (Or.inl rfl) (⟨rfl, by rw [zh_out (Or.inl c1)]; rfl⟩)
  refine g_iload_n g dX1_is_4 rfl rfl ?_
  refine g_bipush (v := nI 6) g dX1_is_5 (by decide) ?_
  refine g_cmpge (tgt := 23) g dX1_is_7 (by decide) (Iff.rfl) (fun c2 => ?_) (fun c2 => ?_)
  · refine g_iconst (v := 0) g dX1_is_23 (by decide) ?_
    exact ret _ _ _ _ dX1_is_24 (Or.inl rfl) (⟨rfl, by rw [zh_out (Or.inr c2)]; rfl⟩)
  obtain ⟨j, hj, rfl⟩ : ∃ j, j < 6 ∧ x = nI j := by
    rcases n_in x 6 (by decide) with (h | h) | h
    · exact absurd h c1
    · exact absurd h c2
    · exact h
  refine g_aload_n g dX1_is_10 rfl rfl ?_
  refine mo_get0 g k dX1_is_11 ?_
  refine g_iload_n g dX1_is_14 rfl rfl ?_
  refine mo_ld0 g k dX1_is_15 (rfl) (hj) ?_
  rw [hu.2 j hj]
  refine g_ifeq (tgt := 23) g dX1_is_16 (by decide) (bI_0) (fun c3 => ?_) (fun c3 => ?_)
  · refine g_iconst (v := 0) g dX1_is_23 (by decide) ?_
    exact ret _ _ _ _ dX1_is_24 (Or.inl rfl) (⟨rfl, by rw [zh_in hj, c3]; rfl⟩)
  · refine g_iconst (v := 1) g dX1_is_19 (by decide) ?_
    refine g_goto (tgt := 24) g dX1_is_20 (by decide) ?_
    exact ret _ _ _ _ dX1_is_24 (Or.inr rfl) (⟨rfl, by rw [zh_in hj, eq_true_of_ne_false c3]; rfl⟩)
theorem mot_form (l : Launch) (u : dS) (x : Int32) : gMi moC l yX1_form cX1_form 3 (some .boolean) (gR 0 0) [.int x] u (fun r u' => u' = u ∧ ((r = 1 ∧ zpkP x) ∨ (r = 0 ∧ ¬ zpkP x))) := by
  refine gMz_of (by decide +kernel) (Nat.le_of_ble_eq_true rfl) cat1 ?_
  intro E a g k ret
  refine g_loc (lv' := [some (.ref (a 0)), some (.int x), none]) rfl ?_
  refine g_iload_n g dX1_form_0 rfl rfl ?_
  refine g_bipush (v := 6) g dX1_form_1 (by decide) ?_
  refine g_ishr g dX1_form_3 ?_
  refine g_istore_n g dX1_form_4 rfl (Nat.le_of_ble_eq_true rfl) ?_
  refine g_iload_n g dX1_form_5 rfl rfl ?_
  refine g_iflt (tgt := 44) g dX1_form_6 (by decide) (Iff.rfl) (fun c0 => ?_) (fun c0 => ?_)
  · refine g_iconst (v := 0) g dX1_form_44 (by decide) ?_
    exact ret _ _ _ _ dX1_form_45 (Or.inl rfl) (⟨rfl, Or.inr ⟨rfl, fun z => by have := zpk_pos z; rw [Int32.lt_iff_toInt_lt] at c0; rw [Int32.le_iff_toInt_le] at this; omega⟩⟩)
  refine g_iload_n g dX1_form_9 rfl rfl ?_
  refine g_bipush (v := 7) g dX1_form_10 (by decide) ?_
  refine g_iand g dX1_form_12 ?_
  refine g_bipush (v := nI 6) g dX1_form_13 (by decide) ?_
  refine g_cmpgt (tgt := 44) g dX1_form_15 (by decide) (Iff.rfl) (fun c1 => ?_) (fun c1 => ?_)
  · refine g_iconst (v := 0) g dX1_form_44 (by decide) ?_
    exact ret _ _ _ _ dX1_form_45 (Or.inl rfl) (⟨rfl, Or.inr ⟨rfl, fun z => z.1 c1⟩⟩)
  refine g_iload_n g dX1_form_18 rfl rfl ?_
  refine g_iconst (v := 3) g dX1_form_19 (by decide) ?_
  refine g_ishr g dX1_form_20 ?_
  refine g_bipush (v := 7) g dX1_form_21 (by decide) ?_
  refine g_iand g dX1_form_23 ?_
  refine g_bipush (v := nI 6) g dX1_form_24 (by decide) ?_
  refine g_cmpgt (tgt := 44) g dX1_form_26 (by decide) (Iff.rfl) (fun c2 => ?_) (fun c2 => ?_)
  · refine g_iconst (v := 0) g dX1_form_44 (by decide) ?_
    exact ret _ _ _ _ dX1_form_45 (Or.inl rfl) (⟨rfl, Or.inr ⟨rfl, fun z => z.2.1 c2⟩⟩)
  refine g_iload_n g dX1_form_29 rfl rfl ?_
  refine g_iconst (v := nI 1) g dX1_form_30 (by decide) ?_
  refine g_cmplt (tgt := 44) g dX1_form_31 (by decide) (Iff.rfl) (fun c3 => ?_) (fun c3 => ?_)
  · refine g_iconst (v := 0) g dX1_form_44 (by decide) ?_
    exact ret _ _ _ _ dX1_form_45 (Or.inl rfl) (⟨rfl, Or.inr ⟨rfl, fun z => z.2.2.1 c3⟩⟩)
  refine g_iload_n g dX1_form_34 rfl rfl ?_
  refine g_bipush (v := nI 9) g dX1_form_35 (by decide) ?_
  refine g_cmpgt (tgt := 44) g dX1_form_37 (by decide) (Iff.rfl) (fun c4 => ?_) (fun c4 => ?_)
  · refine g_iconst (v := 0) g dX1_form_44 (by decide) ?_
    exact ret _ _ _ _ dX1_form_45 (Or.inl rfl) (⟨rfl, Or.inr ⟨rfl, fun z => z.2.2.2 c4⟩⟩)
  refine g_iconst (v := 1) g dX1_form_40 (by decide) ?_
  refine g_goto (tgt := 45) g dX1_form_41 (by decide) ?_
  exact ret _ _ _ _ dX1_form_45 (Or.inr rfl) (⟨rfl, Or.inl ⟨rfl, c1, c2, c3, c4⟩⟩)
theorem mot_hold (l : Launch) (u : dS) {j a1 b1 w1 : Nat} {x : Int32} (hj : j < 6) (hx : zpk x a1 b1 w1) : gMv moC l yX1_hold cX1_hold 3 (gR 0 0) [.int (nI j), .int x] u (fun u' => u' = dF (dF (dF u 3 j (nI a1)) 4 j (nI b1)) 5 j (nI w1)) := by
  refine gMv_of (by decide +kernel) (Nat.le_of_ble_eq_true rfl) cat2 ?_
  intro E a g k ret
  refine g_loc (lv' := [some (.ref (a 0)), some (.int (nI j)), some (.int x)]) rfl ?_
  refine g_aload_n g dX1_hold_0 rfl rfl ?_
  refine mo_get3 g k dX1_hold_1 ?_
  refine g_iload_n g dX1_hold_4 rfl rfl ?_
  refine g_iload_n g dX1_hold_5 rfl rfl ?_
  refine g_bipush (v := 7) g dX1_hold_6 (by decide) ?_
  refine g_iand g dX1_hold_8 ?_
  rw [hx.1]
  refine mo_st3 g k dX1_hold_9 (rfl) (hj) ?_
  refine g_aload_n g dX1_hold_10 rfl rfl ?_
  refine mo_get4 g k dX1_hold_11 ?_
  refine g_iload_n g dX1_hold_14 rfl rfl ?_
  refine g_iload_n g dX1_hold_15 rfl rfl ?_
  refine g_iconst (v := 3) g dX1_hold_16 (by decide) ?_
  refine g_ishr g dX1_hold_17 ?_
  refine g_bipush (v := 7) g dX1_hold_18 (by decide) ?_
  refine g_iand g dX1_hold_20 ?_
  rw [hx.2.1]
  refine mo_st4 g k dX1_hold_21 (rfl) (hj) ?_
  refine g_aload_n g dX1_hold_22 rfl rfl ?_
  refine mo_get5 g k dX1_hold_23 ?_
  refine g_iload_n g dX1_hold_26 rfl rfl ?_
  refine g_iload_n g dX1_hold_27 rfl rfl ?_
  refine g_bipush (v := 6) g dX1_hold_28 (by decide) ?_
  refine g_ishr g dX1_hold_30 ?_
  rw [hx.2.2]
  refine mo_st5 g k dX1_hold_31 (rfl) (hj) ?_
  exact ret _ _ _ dX1_hold_32 (rfl)
/-- the edges of the tasks that are present -/
def zem (σ : zT) (j t : Nat) : Bool := σ.1 j && zed σ σ.2.2 j t
def zet (σ : zT) (T j t : Nat) : Bool := zem σ j t && decide (T ≤ t)
def zcw (σ : zT) (S : Nat → Bool) (t : Nat) : Nat → Bool
  | 0 => false
  | i + 1 => zcw σ S t i || (S i && σ.1 i && decide (σ.2.1 1 i ≤ t) && decide (t < σ.2.1 2 i))
theorem zcw_iff {σ : zT} {S : Nat → Bool} {t : Nat} : ∀ i, zcw σ S t i = true ↔ ∃ j, j < i ∧ S j = true ∧ σ.1 j = true ∧ σ.2.1 1 j ≤ t ∧ t < σ.2.1 2 j := by
  intro i
  induction i with
  | zero => simp [zcw]
  | succ i ih =>
    simp only [zcw, Bool.or_eq_true, ih, Bool.and_eq_true, decide_eq_true_eq]
    constructor
    · rintro (⟨j, h1, h2⟩ | ⟨⟨⟨h1, h2⟩, h3⟩, h4⟩)
      · exact ⟨j, by omega, h2⟩
      · exact ⟨i, by omega, h1, h2, h3, h4⟩
    · rintro ⟨j, h1, h2, h3, h4, h5⟩
      by_cases hj : j = i
      · subst hj; exact Or.inr ⟨⟨⟨h2, h3⟩, h4⟩, h5⟩
      · exact Or.inl ⟨j, by omega, h2, h3, h4, h5⟩
theorem zcov_em {σ : zT} {S : Nat → Bool} {t : Nat} : zcov (zem σ) S t = (zcw σ S t 6 && !bt σ.2.2 t) := by
  cases h : zcov (zem σ) S t with
  | true =>
    obtain ⟨j, h1, h2, h3⟩ := zcov_iff.mp h
    simp only [zem, zed, Bool.and_eq_true, decide_eq_true_eq] at h3
    rw [(zcw_iff 6).mpr ⟨j, h1, h2, h3.1, h3.2.1.1, h3.2.1.2⟩, h3.2.2]
    rfl
  | false =>
    cases h1 : zcw σ S t 6 with
    | false => rfl
    | true =>
      obtain ⟨j, a, b, d, e, f⟩ := (zcw_iff 6).mp h1
      cases h2 : bt σ.2.2 t with
      | true => rfl
      | false =>
        have : zcov (zem σ) S t = true := zcov_iff.mpr ⟨j, a, b, by simp [zem, zed, d, e, f, h2]⟩
        rw [this] at h; cases h
theorem zcov_et {σ : zT} {S : Nat → Bool} {T t : Nat} : zcov (zet σ T) S t = (zcov (zem σ) S t && decide (T ≤ t)) := by
  cases h : zcov (zet σ T) S t with
  | true =>
    obtain ⟨j, h1, h2, h3⟩ := zcov_iff.mp h
    unfold zet at h3
    rw [Bool.and_eq_true] at h3
    rw [zcov_iff.mpr ⟨j, h1, h2, h3.1⟩, h3.2]
    rfl
  | false =>
    cases h1 : zcov (zem σ) S t with
    | false => rfl
    | true =>
      obtain ⟨j, a, b, d⟩ := zcov_iff.mp h1
      cases h2 : decide (T ≤ t) with
      | false => rfl
      | true =>
        have : zcov (zet σ T) S t = true := zcov_iff.mpr ⟨j, a, b, by unfold zet; rw [d, h2]; rfl⟩
        rw [this] at h; cases h
set_option maxHeartbeats 1000000 in
theorem mot_covers (l : Launch) {σ : zT} {u : dS} {t : Nat} (hs : zOk σ) (hu : zM σ u) (ht : t < 24) (x : Int32) : gMi moC l yX1_covers cX1_covers 5 (some .boolean) (gR 0 0) [.int x, .int (nI t)] u (fun r u' => u' = u ∧ r = bI (zcov (zem σ) (fun j => bt x j) t)) := by
  refine gMz_of (by decide +kernel) (Nat.le_of_ble_eq_true rfl) cat2 ?_
  intro E a g k ret
  refine g_loc (lv' := [some (.ref (a 0)), some (.int x), some (.int (nI t)), none, none]) rfl ?_
  refine g_iconst (v := nI 0) g dX1_covers_0 (by decide) ?_
  refine g_istore_n g dX1_covers_1 rfl (Nat.le_of_ble_eq_true rfl) ?_
  refine g_iconst (v := nI 0) g dX1_covers_2 (by decide) ?_
  refine g_istore g dX1_covers_3 (Nat.le_of_ble_eq_true rfl) ?_
  have loop : ∀ i, i ≤ 6 → gG E 5 [some (.ref (a 0)), some (.int x), some (.int (nI t)), some (.int (bI (zcw σ (fun j => bt x j) t i))), some (.int (nI i))] [] u := by
    refine zdown 6 (fun i hi ih => ?_)
    refine g_iload g dX1_covers_5 rfl ?_
    refine g_bipush (v := nI 6) g dX1_covers_7 (by decide) ?_
    refine g_cmpge (tgt := 70) g dX1_covers_9 (by decide) (nI_leI (by omega) (by omega)) (fun c => ?_) (fun c => ?_)
    · have : i = 6 := by omega
      subst this
      rw [zcov_em] at ret
      refine g_iload_n g dX1_covers_70 rfl rfl ?_
      refine g_ifeq (tgt := 89) g dX1_covers_71 (by decide) (bI_0) (fun c1 => ?_) (fun c1 => ?_)
      · refine g_iconst (v := 0) g dX1_covers_89 (by decide) ?_
        exact ret _ _ _ _ dX1_covers_90 (Or.inl rfl) (⟨rfl, by rw [c1]; rfl⟩)
      refine g_aload_n g dX1_covers_74 rfl rfl ?_
      refine mo_get6 g k dX1_covers_75 ?_
      refine g_iload_n g dX1_covers_78 rfl rfl ?_
      refine g_ishr g dX1_covers_79 ?_
      refine g_iconst (v := 1) g dX1_covers_80 (by decide) ?_
      refine g_iand g dX1_covers_81 ?_
      rw [hu.1.2]
      refine g_top (b_get (by omega)) ?_
      refine g_ifne (tgt := 89) g dX1_covers_82 (by decide) (bI_0) (fun c2 => ?_) (fun c2 => ?_)
      · refine g_iconst (v := 0) g dX1_covers_89 (by decide) ?_
        exact ret _ _ _ _ dX1_covers_90 (Or.inl rfl) (⟨rfl, by rw [eq_true_of_ne_false c2, Bool.not_true, Bool.and_false]; rfl⟩)
      · refine g_iconst (v := 1) g dX1_covers_85 (by decide) ?_
        refine g_goto (tgt := 90) g dX1_covers_86 (by decide) ?_
        exact ret _ _ _ _ dX1_covers_90 (Or.inr rfl) (⟨rfl, by rw [c2, eq_true_of_ne_false c1]; rfl⟩)
    have hi6 : i < 6 := by omega
    have hbd := hs i hi6
    have yes : zcw σ (fun j => bt x j) t (i + 1) = true → gG E 58 [some (.ref (a 0)), some (.int x), some (.int (nI t)), some (.int (bI (zcw σ (fun j => bt x j) t i))), some (.int (nI i))] [] u := by
      intro h
      have := ih hi6
      rw [h] at this
      refine g_iconst (v := nI 1) g dX1_covers_58 (by decide) ?_
      refine g_goto (tgt := 63) g dX1_covers_59 (by decide) ?_
      refine g_istore_n g dX1_covers_63 rfl (Nat.le_of_ble_eq_true rfl) ?_
      refine g_iinc g dX1_covers_64 rfl (n_inc _) ?_
      refine g_goto (tgt := 5) g dX1_covers_67 (by decide) ?_
      exact this
    have no : zcw σ (fun j => bt x j) t (i + 1) = false → gG E 62 [some (.ref (a 0)), some (.int x), some (.int (nI t)), some (.int (bI (zcw σ (fun j => bt x j) t i))), some (.int (nI i))] [] u := by
      intro h
      have := ih hi6
      rw [h] at this
      refine g_iconst (v := nI 0) g dX1_covers_62 (by decide) ?_
      refine g_istore_n g dX1_covers_63 rfl (Nat.le_of_ble_eq_true rfl) ?_
      refine g_iinc g dX1_covers_64 rfl (n_inc _) ?_
      refine g_goto (tgt := 5) g dX1_covers_67 (by decide) ?_
      exact this
    refine g_iload_n g dX1_covers_12 rfl rfl ?_
    refine g_ifne (tgt := 58) g dX1_covers_13 (by decide) (bI_0) (fun c1 => ?_) (fun c1 => ?_)
    · exact yes (by simp only [zcw]; rw [eq_true_of_ne_false c1]; rfl)
    refine g_iload_n g dX1_covers_16 rfl rfl ?_
    refine g_iload g dX1_covers_17 rfl ?_
    refine g_ishr g dX1_covers_19 ?_
    refine g_iconst (v := 1) g dX1_covers_20 (by decide) ?_
    refine g_iand g dX1_covers_21 ?_
    refine g_top (b_get (by omega)) ?_
    refine g_iconst (v := nI 1) g dX1_covers_22 (by decide) ?_
    refine g_cmpne (tgt := 62) g dX1_covers_23 (by decide) (bI_1) (fun c2 => ?_) (fun c2 => ?_)
    · exact no (by simp only [zcw]; rw [c1, eq_false_of_ne_true c2]; rfl)
    refine g_aload_n g dX1_covers_26 rfl rfl ?_
    refine mo_get0 g k dX1_covers_27 ?_
    refine g_iload g dX1_covers_30 rfl ?_
    refine mo_ld0 g k dX1_covers_32 (rfl) (hi6) ?_
    rw [hu.2 i hi6]
    refine g_ifeq (tgt := 62) g dX1_covers_33 (by decide) (bI_0) (fun c3 => ?_) (fun c3 => ?_)
    · exact no (by simp only [zcw]; rw [c1, c3]; simp)
    refine g_aload_n g dX1_covers_36 rfl rfl ?_
    refine mo_get1 g k dX1_covers_37 ?_
    refine g_iload g dX1_covers_40 rfl ?_
    refine mo_ld1 g k dX1_covers_42 (rfl) (hi6) ?_
    rw [hu.1.1 1 (by omega) (by omega) i hi6]
    refine g_iload_n g dX1_covers_43 rfl rfl ?_
    refine g_cmpgt (tgt := 62) g dX1_covers_44 (by decide) (nI_ltI (by omega) (by omega)) (fun c4 => ?_) (fun c4 => ?_)
    · exact no (by simp only [zcw]; rw [c1, decide_eq_false (show ¬ σ.2.1 1 i ≤ t by omega)]; simp)
    refine g_iload_n g dX1_covers_47 rfl rfl ?_
    refine g_aload_n g dX1_covers_48 rfl rfl ?_
    refine mo_get2 g k dX1_covers_49 ?_
    refine g_iload g dX1_covers_52 rfl ?_
    refine mo_ld2 g k dX1_covers_54 (rfl) (hi6) ?_
    rw [hu.1.1 2 (by omega) (by omega) i hi6]
    refine g_cmpge (tgt := 62) g dX1_covers_55 (by decide) (nI_leI (by omega) (by omega)) (fun c5 => ?_) (fun c5 => ?_)
    · exact no (by simp only [zcw]; rw [c1, decide_eq_false (show ¬ t < σ.2.1 2 i by omega)]; simp)
    · exact yes (by simp only [zcw]; rw [c2, eq_true_of_ne_false c3, decide_eq_true (show σ.2.1 1 i ≤ t by omega), decide_eq_true (show t < σ.2.1 2 i by omega)]; simp)
  exact loop 0 (by omega)
def zmk (S : Nat) : Nat → Bool := fun j => bt (nI S) j
theorem zmk_ex (f : Nat → Bool) : ∃ S, S < 64 ∧ ∀ j, j < 6 → zmk S j = f j := by
  have key : ∀ b0 b1 b2 b3 b4 b5 : Bool, ∃ S, S < 64 ∧ zmk S 0 = b0 ∧ zmk S 1 = b1 ∧ zmk S 2 = b2 ∧ zmk S 3 = b3 ∧ zmk S 4 = b4 ∧ zmk S 5 = b5 := by
    intro b0 b1 b2 b3 b4 b5
    refine ⟨b0.toNat + 2 * b1.toNat + 4 * b2.toNat + 8 * b3.toNat + 16 * b4.toNat + 32 * b5.toNat, ?_⟩
    revert b0 b1 b2 b3 b4 b5
    decide +kernel
  obtain ⟨S, h, h0, h1, h2, h3, h4, h5⟩ := key (f 0) (f 1) (f 2) (f 3) (f 4) (f 5)
  refine ⟨S, h, fun j hj => ?_⟩
  rcases (show j = 0 ∨ j = 1 ∨ j = 2 ∨ j = 3 ∨ j = 4 ∨ j = 5 by omega) with q | q | q | q | q | q <;> subst q <;> assumption
/-- room holds the counts of the units from T on -/
def zRm (σ : zT) (T : Nat) (u : dS) : Prop := ∀ S, S < 64 → u.2 7 S = nI (zcn (zet σ T) (zmk S))
theorem zcn_b (e : Nat → Nat → Bool) (S : Nat → Bool) : zcn e S ≤ 24 := by
  have : zcn e S ≤ 24 * 1 := zs_bound (fun t _ => by cases zcov e S t <;> decide)
  omega
set_option maxHeartbeats 1000000 in
theorem mot_measure (l : Launch) {σ : zT} {u : dS} {T : Nat} (hs : zOk σ) (hu : zM σ u) (hT : T ≤ 24) : gMv moC l yX1_measure cX1_measure 4 (gR 1 24) [.int (nI T)] u (fun u' => dFr [] [7] u u' ∧ zRm σ T u') := by
  refine gMv_of (by decide +kernel) (Nat.le_of_ble_eq_true rfl) cat1 ?_
  intro E a g k ret
  refine g_loc (lv' := [some (.ref (a 0)), some (.int (nI T)), none, none]) rfl ?_
  refine g_iconst (v := nI 0) g dX1_measure_0 (by decide) ?_
  refine g_istore_n g dX1_measure_1 rfl (Nat.le_of_ble_eq_true rfl) ?_
  have outer : ∀ i, i ≤ 64 → ∀ u1 : dS, dFr [] [7] u u1 → (∀ S, S < i → u1.2 7 S = nI (zcn (zet σ T) (zmk S))) → gG E 2 [some (.ref (a 0)), some (.int (nI T)), some (.int (nI i)), none] [] u1 := by
    refine zdown 64 (fun i hi ih u1 hf hS => ?_)
    refine g_iload_n g dX1_measure_2 rfl rfl ?_
    refine g_bipush (v := nI 64) g dX1_measure_3 (by decide) ?_
    refine g_cmpge (tgt := 62) g dX1_measure_5 (by decide) (nI_leI (by omega) (by omega)) (fun c => ?_) (fun c => ?_)
    · exact ret _ _ _ dX1_measure_62 (⟨hf, fun S h => hS S (by omega)⟩)
    have hi6 : i < 64 := by omega
    refine g_aload_n g dX1_measure_8 rfl rfl ?_
    refine mo_get7 g k dX1_measure_9 ?_
    refine g_iload_n g dX1_measure_12 rfl rfl ?_
    refine g_iconst (v := nI 0) g dX1_measure_13 (by decide) ?_
    refine mo_st7 g k dX1_measure_14 (rfl) (hi6) ?_
    refine g_iload_n g dX1_measure_15 rfl rfl ?_
    refine g_istore_n g dX1_measure_16 rfl (Nat.le_of_ble_eq_true rfl) ?_
    have inner : ∀ t, t ≤ 24 → T ≤ t → ∀ u2 : dS, dFr [] [7] u u2 → (∀ S, S < i → u2.2 7 S = nI (zcn (zet σ T) (zmk S))) → u2.2 7 i = nI (zs (fun t => (zcov (zet σ T) (zmk i) t).toNat) t) → gG E 17 [some (.ref (a 0)), some (.int (nI T)), some (.int (nI i)), some (.int (nI t))] [] u2 := by
      refine zdown 24 (fun t ht iht hTt u2 hf2 hS2 hi2 => ?_)
      have hu2 : zM σ u2 := hu.fr hf2 (by decide) (by decide)
      refine g_iload_n g dX1_measure_17 rfl rfl ?_
      refine g_bipush (v := nI 24) g dX1_measure_18 (by decide) ?_
      refine g_cmpge (tgt := 56) g dX1_measure_20 (by decide) (nI_leI (by omega) (by omega)) (fun c2 => ?_) (fun c2 => ?_)
      · have : t = 24 := by omega
        subst this
        refine g_iinc g dX1_measure_56 rfl (n_inc _) ?_
        refine g_goto (tgt := 2) g dX1_measure_59 (by decide) ?_
        refine g_forget 3 ?_
        refine ih (by omega) u2 hf2 (fun S hS => ?_)
        by_cases hSi : S = i
        · subst hSi; exact hi2
        · exact hS2 S (by omega)
      have ht24 : t < 24 := by omega
      refine g_aload_n g dX1_measure_23 rfl rfl ?_
      refine mo_get7 g k dX1_measure_24 ?_
      refine g_iload_n g dX1_measure_27 rfl rfl ?_
      refine g_aload_n g dX1_measure_28 rfl rfl ?_
      refine mo_get7 g k dX1_measure_29 ?_
      refine g_iload_n g dX1_measure_32 rfl rfl ?_
      refine mo_ld7 g k dX1_measure_33 (rfl) (hi6) ?_
      rw [hi2]
      refine g_aload_n g dX1_measure_34 rfl rfl ?_
      refine g_iload_n g dX1_measure_35 rfl rfl ?_
      refine g_iload_n g dX1_measure_36 rfl rfl ?_
      refine mo_call_covers g k dX1_measure_37 (mot_covers l hs hu2 ht24 (nI i)) (by decide) (Nat.le_of_ble_eq_true rfl) (fun r u3 ⟨hu3, hr⟩ => ?_)
      rw [hu3, hr]
      have e1 : (zcov (zet σ T) (zmk i) t).toNat = (zcov (zem σ) (fun j => bt (nI i) j) t).toNat := by
        rw [zcov_et, decide_eq_true hTt, Bool.and_true]; rfl
      have nx : gG E 49 [some (.ref (a 0)), some (.int (nI T)), some (.int (nI i)), some (.int (nI t))] [.int (nI (zs (fun t => (zcov (zet σ T) (zmk i) t).toNat) (t + 1))), .int (nI i), .ref (a 7)] u2 := by
        refine mo_st7 g k dX1_measure_49 (rfl) (hi6) ?_
        refine g_iinc g dX1_measure_50 rfl (n_inc _) ?_
        refine g_goto (tgt := 17) g dX1_measure_53 (by decide) ?_
        refine iht ht24 (by omega) _ (hf2.f (by decide)) (fun S hS => ?_) ?_
        · rw [dF_2, if_pos rfl, if_neg (by omega)]; exact hS2 S hS
        · rw [dF_2, if_pos rfl, if_pos rfl]
      have e2 : zs (fun t => (zcov (zet σ T) (zmk i) t).toNat) (t + 1) = zs (fun t => (zcov (zet σ T) (zmk i) t).toNat) t + (zcov (zem σ) (fun j => bt (nI i) j) t).toNat := by
        rw [← e1]; rfl
      rw [e2] at nx
      refine g_ifeq (tgt := 47) g dX1_measure_40 (by decide) (bI_0) (fun c3 => ?_) (fun c3 => ?_)
      · rw [c3] at nx
        refine g_iconst (v := 0) g dX1_measure_47 (by decide) ?_
        refine g_iadd g dX1_measure_48 ?_
        refine g_top (nI_add _ 0) ?_
        exact nx
      · rw [eq_true_of_ne_false c3] at nx
        refine g_iconst (v := nI 1) g dX1_measure_43 (by decide) ?_
        refine g_goto (tgt := 48) g dX1_measure_44 (by decide) ?_
        refine g_iadd g dX1_measure_48 ?_
        rw [nI_add]
        exact nx
    refine inner T hT (Nat.le_refl _) _ (hf.f (by decide)) (fun S hSi => ?_) ?_
    · rw [dF_2, if_pos rfl, if_neg (by omega)]; exact hS S hSi
    · rw [dF_2, if_pos rfl, if_pos rfl]
      congr 1
      exact (zs_zero (fun t ht => by rw [zcov_et, decide_eq_false (by omega), Bool.and_false]; rfl)).symm
  exact outer 0 (by omega) u dFr.rf (fun S hS => absurd hS (by omega))
def zww (σ : zT) (w : Nat → Nat) : Nat → Nat := fun j => if σ.1 j = true then w j else 0
set_option maxHeartbeats 1000000 in
theorem mot_can (l : Launch) {σ : zT} {u : dS} {T : Nat} {w : Nat → Nat} (hu : zM σ u) (hR : zRm σ T u) (hw : ∀ j, j < 6 → u.2 8 j = nI (w j) ∧ w j < 128) : gMi moC l yX1_can cX1_can 5 (some .boolean) (gR 0 0) [] u (fun r u' => u' = u ∧ ((r = 1 ∧ zhall (zet σ T) (zww σ w)) ∨ (r = 0 ∧ ¬ zhall (zet σ T) (zww σ w)))) := by
  refine gMz_of (by decide +kernel) (Nat.le_of_ble_eq_true rfl) cat0 ?_
  intro E a g k ret
  refine g_loc (lv' := [some (.ref (a 0)), none, none, none, none]) rfl ?_
  refine g_iconst (v := nI 1) g dX1_can_0 (by decide) ?_
  refine g_istore_n g dX1_can_1 rfl (Nat.le_of_ble_eq_true rfl) ?_
  refine g_iconst (v := nI 1) g dX1_can_2 (by decide) ?_
  refine g_istore_n g dX1_can_3 rfl (Nat.le_of_ble_eq_true rfl) ?_
  have bound : ∀ S n, n ≤ 6 → zs (fun j => if zmk S j = true then zww σ w j else 0) n ≤ 6 * 128 := fun S n hn => by
    have : zs (fun j => if zmk S j = true then zww σ w j else 0) n ≤ n * 128 := zs_bound (fun j hj => by
      have := (hw j (by omega)).2
      unfold zww
      split
      · split <;> omega
      · omega)
    omega
  have outer : ∀ i, i ≤ 64 → 1 ≤ i → ∀ o : Int32, ((o = nI 1 ∧ ∀ S, S < i → zw (zww σ w) (zmk S) ≤ zcn (zet σ T) (zmk S)) ∨ (o = nI 0 ∧ ¬ zhall (zet σ T) (zww σ w))) → gG E 4 [some (.ref (a 0)), some (.int o), some (.int (nI i)), none, none] [] u := by
    refine zdown 64 (fun i hi ih h1 o ho => ?_)
    have fin : (o = nI 1 → 64 ≤ i) → gG E 88 [some (.ref (a 0)), some (.int o), some (.int (nI i)), none, none] [] u := by
      intro h64
      rcases ho with ⟨rfl, ho⟩ | ⟨rfl, ho⟩
      · refine g_iload_n g dX1_can_88 rfl rfl ?_
        refine ret _ _ _ _ dX1_can_89 (Or.inr rfl) (⟨rfl, Or.inl ⟨rfl, fun S => ?_⟩⟩)
        obtain ⟨m, m1, m2⟩ := zmk_ex S
        have z1 := ho m (by have := h64 rfl; omega)
        have z2 : zw (zww σ w) S ≤ zw (zww σ w) (zmk m) := zw_mono (fun j hj hs => ⟨by rw [m2 j hj]; exact hs, Nat.le_refl _⟩)
        have z3 : zcn (zet σ T) (zmk m) ≤ zcn (zet σ T) S := zcn_mono (fun j hj t _ hs he => ⟨by rw [← m2 j hj]; exact hs, he⟩)
        omega
      · refine g_iload_n g dX1_can_88 rfl rfl ?_
        exact ret _ _ _ _ dX1_can_89 (Or.inl rfl) (⟨rfl, Or.inr ⟨rfl, ho⟩⟩)
    refine g_iload_n g dX1_can_4 rfl rfl ?_
    refine g_bipush (v := nI 64) g dX1_can_5 (by decide) ?_
    refine g_cmpge (tgt := 88) g dX1_can_7 (by decide) (nI_leI (by omega) (by omega)) (fun c => ?_) (fun c => ?_)
    · exact fin (fun _ => c)
    rcases ho with ⟨rfl, ho⟩ | ⟨rfl, ho⟩
    rotate_left
    · refine g_iload_n g dX1_can_10 rfl rfl ?_
      refine g_ifeq (tgt := 88) g dX1_can_11 (by decide) (Iff.rfl) (fun c1 => ?_) (fun c1 => ?_)
      · exact fin (fun z => absurd z (by decide))
      · exact absurd rfl c1
    refine g_iload_n g dX1_can_10 rfl rfl ?_
    refine g_ifeq (tgt := 88) g dX1_can_11 (by decide) (Iff.rfl) (fun c1 => ?_) (fun c1 => ?_)
    · exact absurd c1 (by decide)
    have hi64 : i < 64 := by omega
    refine g_iconst (v := nI 0) g dX1_can_14 (by decide) ?_
    refine g_istore_n g dX1_can_15 rfl (Nat.le_of_ble_eq_true rfl) ?_
    refine g_iconst (v := nI 0) g dX1_can_16 (by decide) ?_
    refine g_istore g dX1_can_17 (Nat.le_of_ble_eq_true rfl) ?_
    have inner : ∀ j, j ≤ 6 → gG E 19 [some (.ref (a 0)), some (.int (nI 1)), some (.int (nI i)), some (.int (nI (zs (fun j => if zmk i j = true then zww σ w j else 0) j))), some (.int (nI j))] [] u := by
      refine zdown 6 (fun j hj ihj => ?_)
      refine g_iload g dX1_can_19 rfl ?_
      refine g_bipush (v := nI 6) g dX1_can_21 (by decide) ?_
      refine g_cmpge (tgt := 66) g dX1_can_23 (by decide) (nI_leI (by omega) (by omega)) (fun c2 => ?_) (fun c2 => ?_)
      · have : j = 6 := by omega
        subst this
        have hb1 := bound i 6 (by omega)
        have hb2 := zcn_b (zet σ T) (zmk i)
        refine g_iload_n g dX1_can_66 rfl rfl ?_
        refine g_aload_n g dX1_can_67 rfl rfl ?_
        refine mo_get7 g k dX1_can_68 ?_
        refine g_iload_n g dX1_can_71 rfl rfl ?_
        refine mo_ld7 g k dX1_can_72 (rfl) (hi64) ?_
        rw [hR i hi64]
        refine g_cmpgt (tgt := 80) g dX1_can_73 (by decide) (nI_ltI (by omega) (by omega)) (fun c3 => ?_) (fun c3 => ?_)
        · refine g_iconst (v := nI 0) g dX1_can_80 (by decide) ?_
          refine g_istore_n g dX1_can_81 rfl (Nat.le_of_ble_eq_true rfl) ?_
          refine g_iinc g dX1_can_82 rfl (n_inc _) ?_
          refine g_goto (tgt := 4) g dX1_can_85 (by decide) ?_
          refine g_forget 3 (g_forget 4 ?_)
          refine ih hi64 (by omega) _ (Or.inr ⟨rfl, fun z => ?_⟩)
          have := z (zmk i)
          unfold zw at this
          omega
        · refine g_iconst (v := nI 1) g dX1_can_76 (by decide) ?_
          refine g_goto (tgt := 81) g dX1_can_77 (by decide) ?_
          refine g_istore_n g dX1_can_81 rfl (Nat.le_of_ble_eq_true rfl) ?_
          refine g_iinc g dX1_can_82 rfl (n_inc _) ?_
          refine g_goto (tgt := 4) g dX1_can_85 (by decide) ?_
          refine g_forget 3 (g_forget 4 ?_)
          refine ih hi64 (by omega) _ (Or.inl ⟨rfl, fun S hS => ?_⟩)
          by_cases hSi : S = i
          · subst hSi; unfold zw; omega
          · exact ho S (by omega)
      have hj6 : j < 6 := by omega
      have nx := ihj hj6
      have e0 : zs (fun j => if zmk i j = true then zww σ w j else 0) (j + 1) = zs (fun j => if zmk i j = true then zww σ w j else 0) j + (if zmk i j = true then zww σ w j else 0) := rfl
      rw [e0] at nx
      have zero : (zmk i j = false ∨ σ.1 j = false) → gG E 57 [some (.ref (a 0)), some (.int (nI 1)), some (.int (nI i)), some (.int (nI (zs (fun j => if zmk i j = true then zww σ w j else 0) j))), some (.int (nI j))] [.int (nI (zs (fun j => if zmk i j = true then zww σ w j else 0) j))] u := by
        intro hz
        have e1 : (if zmk i j = true then zww σ w j else 0) = 0 := by
          unfold zww
          rcases hz with z | z
          · rw [z]; rfl
          · rw [z]; simp
        rw [e1] at nx
        refine g_iconst (v := 0) g dX1_can_57 (by decide) ?_
        refine g_iadd g dX1_can_58 ?_
        refine g_top (v := nI (zs (fun j => if zmk i j = true then zww σ w j else 0) j)) (nI_add _ 0) ?_
        refine g_istore_n g dX1_can_59 rfl (Nat.le_of_ble_eq_true rfl) ?_
        refine g_iinc g dX1_can_60 rfl (n_inc _) ?_
        refine g_goto (tgt := 19) g dX1_can_63 (by decide) ?_
        exact nx
      refine g_iload_n g dX1_can_26 rfl rfl ?_
      refine g_iload_n g dX1_can_27 rfl rfl ?_
      refine g_iload g dX1_can_28 rfl ?_
      refine g_ishr g dX1_can_30 ?_
      refine g_iconst (v := 1) g dX1_can_31 (by decide) ?_
      refine g_iand g dX1_can_32 ?_
      refine g_top (b_get (by omega)) ?_
      refine g_iconst (v := nI 1) g dX1_can_33 (by decide) ?_
      refine g_cmpne (tgt := 57) g dX1_can_34 (by decide) (bI_1) (fun c3 => ?_) (fun c3 => ?_)
      · exact zero (Or.inl (eq_false_of_ne_true c3))
      refine g_aload_n g dX1_can_37 rfl rfl ?_
      refine mo_get0 g k dX1_can_38 ?_
      refine g_iload g dX1_can_41 rfl ?_
      refine mo_ld0 g k dX1_can_43 (rfl) (hj6) ?_
      rw [hu.2 j hj6]
      refine g_ifeq (tgt := 57) g dX1_can_44 (by decide) (bI_0) (fun c4 => ?_) (fun c4 => ?_)
      · exact zero (Or.inr c4)
      have e1 : (if zmk i j = true then zww σ w j else 0) = w j := by
        unfold zww
        rw [if_pos (show zmk i j = true from c3), if_pos (eq_true_of_ne_false c4)]
      rw [e1] at nx
      refine g_aload_n g dX1_can_47 rfl rfl ?_
      refine mo_get8 g k dX1_can_48 ?_
      refine g_iload g dX1_can_51 rfl ?_
      refine mo_ld8 g k dX1_can_53 (rfl) (hj6) ?_
      rw [(hw j hj6).1]
      refine g_goto (tgt := 58) g dX1_can_54 (by decide) ?_
      refine g_iadd g dX1_can_58 ?_
      rw [nI_add]
      refine g_istore_n g dX1_can_59 rfl (Nat.le_of_ble_eq_true rfl) ?_
      refine g_iinc g dX1_can_60 rfl (n_inc _) ?_
      refine g_goto (tgt := 19) g dX1_can_63 (by decide) ?_
      exact nx
    exact inner 0 (by omega)
  refine outer 1 (by omega) (by omega) _ (Or.inl ⟨rfl, fun S hS => ?_⟩)
  have : S = 0 := by omega
  subst this
  have : zw (zww σ w) (zmk 0) = 0 := zs_zero (fun j hj => if_neg (by
    have : ∀ j, j < 6 → zmk 0 j = false := by decide +kernel
    rw [this j hj]; decide))
  omega
theorem zet_ed {σ : zT} {T : Nat} {w : Nat → Nat} (hw : ∀ j, j < 6 → 0 < w j → σ.1 j = true) : zhall (zet σ T) w ↔ zhall (zel σ T) w := by
  constructor
  · refine zhall_edge (fun j hj t ht h0 he => ?_)
    unfold zet zem at he
    unfold zel
    rw [Bool.and_eq_true, Bool.and_eq_true] at he
    rw [he.1.2, he.2]; rfl
  · refine zhall_edge (fun j hj t ht h0 he => ?_)
    unfold zel at he
    unfold zet zem
    rw [Bool.and_eq_true] at he
    rw [hw j hj h0, he.1, he.2]; rfl
theorem zel_0 {σ : zT} {w : Nat → Nat} : zhall (zel σ 0) w ↔ zhall (zed σ σ.2.2) w := zhall_ed (fun j _ t _ => by unfold zel; simp)
theorem zww_th {σ : zT} {w : Nat → Nat} : ∀ j, j < 6 → 0 < zww σ w j → σ.1 j = true := fun j _ h => by
  unfold zww at h
  cases hs : σ.1 j with
  | true => rfl
  | false => rw [hs] at h; simp at h
theorem mot_fits (l : Launch) {σ : zT} {u : dS} (hs : zOk σ) (hu : zM σ u) : gMi moC l yX1_fits cX1_fits 2 (some .boolean) (gR 2 47) [] u (fun r u' => dFr [] [7, 8] u u' ∧ ((r = 1 ∧ zfit σ) ∨ (r = 0 ∧ ¬ zfit σ))) := by
  refine gMz_of (by decide +kernel) (Nat.le_of_ble_eq_true rfl) cat0 ?_
  intro E a g k ret
  refine g_loc (lv' := [some (.ref (a 0)), none]) rfl ?_
  refine g_aload_n g dX1_fits_0 rfl rfl ?_
  refine g_iconst (v := nI 0) g dX1_fits_1 (by decide) ?_
  refine mo_call_measure g k dX1_fits_2 (mot_measure l hs hu (T := 0) (by omega)) (by decide) (Nat.le_of_ble_eq_true rfl) (fun u1 ⟨hf1, hR⟩ => ?_)
  refine g_iconst (v := nI 0) g dX1_fits_5 (by decide) ?_
  refine g_istore_n g dX1_fits_6 rfl (Nat.le_of_ble_eq_true rfl) ?_
  have loop : ∀ i, i ≤ 6 → ∀ u2 : dS, dFr [] [8] u1 u2 → (∀ j, j < i → u2.2 8 j = nI (σ.2.1 3 j)) → gG E 7 [some (.ref (a 0)), some (.int (nI i))] [] u2 := by
    refine zdown 6 (fun i hi ih u2 hf2 hw => ?_)
    have hF2 : dFr [] [7, 8] u u2 := (hf1.up (by decide) (by decide)).tr (hf2.up (by decide) (by decide))
    have hu2 : zM σ u2 := hu.fr hF2 (by decide) (by decide)
    refine g_iload_n g dX1_fits_7 rfl rfl ?_
    refine g_bipush (v := nI 6) g dX1_fits_8 (by decide) ?_
    refine g_cmpge (tgt := 31) g dX1_fits_10 (by decide) (nI_leI (by omega) (by omega)) (fun c => ?_) (fun c => ?_)
    · have hR2 : zRm σ 0 u2 := fun S hS => by rw [hf2.2 7 (by decide)]; exact hR S hS
      have hz : zhall (zet σ 0) (zww σ (σ.2.1 3)) ↔ zfit σ := (zet_ed zww_th).trans zel_0
      refine g_aload_n g dX1_fits_31 rfl rfl ?_
      refine mo_call_can g k dX1_fits_32 (mot_can l hu2 hR2 (w := σ.2.1 3) (fun j hj => ⟨hw j (by omega), by have := hs j hj; omega⟩)) (by decide) (Nat.le_of_ble_eq_true rfl) (fun r u3 ⟨hu3, hr⟩ => ?_)
      rw [hu3]
      rcases hr with ⟨rfl, h⟩ | ⟨rfl, h⟩
      · exact ret _ _ _ _ dX1_fits_35 (Or.inr rfl) (⟨hF2, Or.inl ⟨rfl, hz.mp h⟩⟩)
      · exact ret _ _ _ _ dX1_fits_35 (Or.inl rfl) (⟨hF2, Or.inr ⟨rfl, fun z => h (hz.mpr z)⟩⟩)
    have hi6 : i < 6 := by omega
    refine g_aload_n g dX1_fits_13 rfl rfl ?_
    refine mo_get8 g k dX1_fits_14 ?_
    refine g_iload_n g dX1_fits_17 rfl rfl ?_
    refine g_aload_n g dX1_fits_18 rfl rfl ?_
    refine mo_get3 g k dX1_fits_19 ?_
    refine g_iload_n g dX1_fits_22 rfl rfl ?_
    refine mo_ld3 g k dX1_fits_23 (rfl) (hi6) ?_
    rw [hu2.1.1 3 (by omega) (by omega) i hi6]
    refine mo_st8 g k dX1_fits_24 (rfl) (hi6) ?_
    refine g_iinc g dX1_fits_25 rfl (n_inc _) ?_
    refine g_goto (tgt := 7) g dX1_fits_28 (by decide) ?_
    refine ih hi6 _ (hf2.f (by decide)) (fun j hj => ?_)
    rw [dF_2, if_pos rfl]
    by_cases hji : j = i
    · simp [hji]
    · simp only [hji, if_false]; exact hw j (by omega)
  exact loop 0 (by omega) u1 dFr.rf (fun j hj => absurd hj (by omega))
end
section
/-! Model: bring, take, block, change, tasks, blocked -/
theorem zM_hold {σ : zT} {u : dS} {j a b w : Nat} (h : zM σ u) : zM (zst3 σ j a b w) (dF (dF (dF u 3 j (nI a)) 4 j (nI b)) 5 j (nI w)) :=
  ⟨zA_f (σ := (σ.1, zup (zup σ.2.1 3 j a) 4 j b, σ.2.2)) (zA_f (σ := (σ.1, zup σ.2.1 3 j a, σ.2.2)) (zA_f h.1)), fun q hq => by
    rw [dF_n _ _ _ _ _ (by decide), dF_n _ _ _ _ _ (by decide), dF_n _ _ _ _ _ (by decide)]
    exact h.2 q hq⟩
theorem zA_f0 {σ : zT} {u : dS} {j : Nat} {x : Int32} (h : zA σ u) : zA σ (dF u 0 j x) := ⟨fun k h1 h5 i hi => by rw [dF_n _ _ _ _ _ (by omega)]; exact h.1 k h1 h5 i hi, h.2⟩
theorem zM_th {σ : zT} {u : dS} {j : Nat} {b : Bool} (h : zM σ u) : zM (zth σ.1 j b, σ.2.1, σ.2.2) (dF u 0 j (bI b)) := ⟨zA_f0 (zA_th h.1), fun q hq => by
  rw [dF_2, if_pos rfl]
  show _ = bI (zth σ.1 j b q)
  unfold zth
  by_cases hqj : q = j
  · simp [hqj]
  · simp only [hqj, if_false]; exact h.2 q hq⟩
theorem zM_b {σ : zT} {u : dS} {B : Int32} (h : zM σ u) : zM (σ.1, σ.2.1, B) (dI u 6 B) := ⟨zA_b h.1, h.2⟩
theorem zM_cg {σ σ' : zT} {u : dS} (h : zM σ u) (h1 : ∀ j, j < 6 → σ.1 j = σ'.1 j) (h2 : σ.2 = σ'.2) : zM σ' u := by
  obtain ⟨⟨a1, a2⟩, a3⟩ := h
  rw [h2] at a1 a2
  exact ⟨⟨a1, a2⟩, fun j hj => by rw [← h1 j hj]; exact a3 j hj⟩
theorem mot_bring_bad (l : Launch) (u : dS) (x y z : Int32) (hbad : zbad x y z) : gMi moC l yX1_bring cX1_bring 5 (some .int) (gR 3 68) [.int x, .int y, .int z] u (fun r u' => r = -1 ∧ u' = u) := by
  refine gMi_of (by decide +kernel) (Nat.le_of_ble_eq_true rfl) cat3 ?_
  intro E a g k ret
  refine g_loc (lv' := [some (.ref (a 0)), some (.int x), some (.int y), some (.int z), none]) rfl ?_
  refine g_iload_n g dX1_bring_0 rfl rfl ?_
  refine g_iflt (tgt := 23) g dX1_bring_1 (by decide) (Iff.rfl) (fun c1 => ?_) (fun c1 => ?_)
  · refine g_iconst (v := (-1)) g dX1_bring_23 (by decide) ?_
    exact ret _ _ _ _ dX1_bring_24 (⟨rfl, rfl⟩)
  refine g_iload_n g dX1_bring_4 rfl rfl ?_
  refine g_iload_n g dX1_bring_5 rfl rfl ?_
  refine g_cmpge (tgt := 23) g dX1_bring_6 (by decide) (Iff.rfl) (fun c2 => ?_) (fun c2 => ?_)
  · refine g_iconst (v := (-1)) g dX1_bring_23 (by decide) ?_
    exact ret _ _ _ _ dX1_bring_24 (⟨rfl, rfl⟩)
  refine g_iload_n g dX1_bring_9 rfl rfl ?_
  refine g_bipush (v := nI 24) g dX1_bring_10 (by decide) ?_
  refine g_cmpgt (tgt := 23) g dX1_bring_12 (by decide) (Iff.rfl) (fun c3 => ?_) (fun c3 => ?_)
  · refine g_iconst (v := (-1)) g dX1_bring_23 (by decide) ?_
    exact ret _ _ _ _ dX1_bring_24 (⟨rfl, rfl⟩)
  refine g_aload_n g dX1_bring_15 rfl rfl ?_
  refine g_iload_n g dX1_bring_16 rfl rfl ?_
  refine mo_call_form g k dX1_bring_17 (mot_form l _ z) (by decide) (Nat.le_of_ble_eq_true rfl) (fun r u2 ⟨hu2, hr⟩ => ?_)
  subst hu2
  rcases hr with ⟨rfl, h⟩ | ⟨rfl, h⟩
  · rcases hbad with q | q | q | q
    · exact absurd q c1
    · exact absurd q c3
    · exact absurd q c2
    · exact absurd h q
  · refine g_ifne (tgt := 25) g dX1_bring_20 (by decide) (Iff.rfl) (fun c4 => ?_) (fun c4 => ?_)
    · exact absurd rfl c4
    · refine g_iconst (v := (-1)) g dX1_bring_23 (by decide) ?_
      exact ret _ _ _ _ dX1_bring_24 (⟨rfl, rfl⟩)
set_option maxHeartbeats 1000000 in
theorem mot_bring (l : Launch) {σ : zT} {u : dS} {p q a1 b1 w1 j0 : Nat} {z : Int32} (hs : zOk σ) (hu : zM σ u) (hpq : p < q) (hq : q ≤ 24) (hz : zpkP z) (hx : zpk z a1 b1 w1) (ha : a1 ≤ 6) (hb : b1 ≤ 6) (hw : w1 ≤ 9) (hj0 : j0 ≤ 6) (hbef : ∀ i, i < j0 → σ.1 i = true) (hat : j0 < 6 → σ.1 j0 = false) : gMi moC l yX1_bring cX1_bring 5 (some .int) (gR 3 68) [.int (nI p), .int (nI q), .int z] u (fun r u' => (j0 = 6 → r = -2 ∧ u' = u) ∧ (j0 < 6 → (zfit (zbr σ (zth σ.1 j0 true) j0 p q a1 b1 w1) → r = nI j0 ∧ zM (zbr σ (zth σ.1 j0 true) j0 p q a1 b1 w1) u') ∧ (¬ zfit (zbr σ (zth σ.1 j0 true) j0 p q a1 b1 w1) → r = -3 ∧ zM (zbr σ σ.1 j0 p q a1 b1 w1) u'))) := by
  refine gMi_of (by decide +kernel) (Nat.le_of_ble_eq_true rfl) cat3 ?_
  intro E a g k ret
  refine g_loc (lv' := [some (.ref (a 0)), some (.int (nI p)), some (.int (nI q)), some (.int z), none]) rfl ?_
  refine g_iload_n g dX1_bring_0 rfl rfl ?_
  refine g_iflt (tgt := 23) g dX1_bring_1 (by decide) (n_lt0 (by omega)) (fun c1 => ?_) (fun c1 => ?_)
  · exact c1.elim
  refine g_iload_n g dX1_bring_4 rfl rfl ?_
  refine g_iload_n g dX1_bring_5 rfl rfl ?_
  refine g_cmpge (tgt := 23) g dX1_bring_6 (by decide) (nI_leI (by omega) (by omega)) (fun c2 => ?_) (fun c2 => ?_)
  · omega
  refine g_iload_n g dX1_bring_9 rfl rfl ?_
  refine g_bipush (v := nI 24) g dX1_bring_10 (by decide) ?_
  refine g_cmpgt (tgt := 23) g dX1_bring_12 (by decide) (nI_ltI (by omega) (by omega)) (fun c3 => ?_) (fun c3 => ?_)
  · omega
  refine g_aload_n g dX1_bring_15 rfl rfl ?_
  refine g_iload_n g dX1_bring_16 rfl rfl ?_
  refine mo_call_form g k dX1_bring_17 (mot_form l _ z) (by decide) (Nat.le_of_ble_eq_true rfl) (fun r u2 ⟨hu2, hr⟩ => ?_)
  subst hu2
  rcases hr with ⟨rfl, -⟩ | ⟨rfl, h⟩
  rotate_left
  · exact absurd hz h
  refine g_ifne (tgt := 25) g dX1_bring_20 (by decide) (Iff.rfl) (fun c4 => ?_) (fun c4 => ?_)
  rotate_left
  · exact absurd c4 (by decide)
  refine g_iconst (v := nI 0) g dX1_bring_25 (by decide) ?_
  refine g_istore g dX1_bring_26 (Nat.le_of_ble_eq_true rfl) ?_
  have loop : ∀ i, i ≤ j0 → gG E 28 [some (.ref (a 0)), some (.int (nI p)), some (.int (nI q)), some (.int z), some (.int (nI i))] [] u2 := by
    refine zdown j0 (fun i hi ih => ?_)
    refine g_iload g dX1_bring_28 rfl ?_
    refine g_bipush (v := nI 6) g dX1_bring_30 (by decide) ?_
    refine g_cmpge (tgt := 111) g dX1_bring_32 (by decide) (nI_leI (by omega) (by omega)) (fun c5 => ?_) (fun c5 => ?_)
    · refine g_bipush (v := (-2)) g dX1_bring_111 (by decide) ?_
      exact ret _ _ _ _ dX1_bring_113 (⟨fun _ => ⟨rfl, rfl⟩, fun y => by omega⟩)
    have hi6 : i < 6 := by omega
    refine g_aload_n g dX1_bring_35 rfl rfl ?_
    refine mo_get0 g k dX1_bring_36 ?_
    refine g_iload g dX1_bring_39 rfl ?_
    refine mo_ld0 g k dX1_bring_41 (rfl) (hi6) ?_
    rw [hu.2 i hi6]
    by_cases hij : i = j0
    rotate_left
    · rw [hbef i (by omega)]
      refine g_ifne (tgt := 105) g dX1_bring_42 (by decide) (bI_0) (fun c6 => ?_) (fun c6 => ?_)
      · refine g_iinc g dX1_bring_105 rfl (n_inc _) ?_
        refine g_goto (tgt := 28) g dX1_bring_108 (by decide) ?_
        exact ih (by omega)
      · cases c6
    subst hij
    rw [hat hi6]
    refine g_ifne (tgt := 105) g dX1_bring_42 (by decide) (bI_0) (fun c6 => ?_) (fun c6 => ?_)
    · exact absurd rfl c6
    refine g_aload_n g dX1_bring_45 rfl rfl ?_
    refine mo_get0 g k dX1_bring_46 ?_
    refine g_iload g dX1_bring_49 rfl ?_
    refine g_iconst (v := nI 1) g dX1_bring_51 (by decide) ?_
    refine mo_st0 g k dX1_bring_52 (rfl) (hi6) (rfl) ?_
    refine g_aload_n g dX1_bring_53 rfl rfl ?_
    refine mo_get1 g k dX1_bring_54 ?_
    refine g_iload g dX1_bring_57 rfl ?_
    refine g_iload_n g dX1_bring_59 rfl rfl ?_
    refine mo_st1 g k dX1_bring_60 (rfl) (hi6) ?_
    refine g_aload_n g dX1_bring_61 rfl rfl ?_
    refine mo_get2 g k dX1_bring_62 ?_
    refine g_iload g dX1_bring_65 rfl ?_
    refine g_iload_n g dX1_bring_67 rfl rfl ?_
    refine mo_st2 g k dX1_bring_68 (rfl) (hi6) ?_
    refine g_aload_n g dX1_bring_69 rfl rfl ?_
    refine g_iload g dX1_bring_70 rfl ?_
    refine g_iload_n g dX1_bring_72 rfl rfl ?_
    refine mo_call_hold g k dX1_bring_73 (mot_hold l _ hi6 hx) (by decide) (Nat.le_of_ble_eq_true rfl) (fun u3 hu3 => ?_)
    have hM3 : zM (zbr σ (zth σ.1 i true) i p q a1 b1 w1) u3 := by
      rw [hu3]
      refine zM_hold (σ := (zth σ.1 i true, zup (zup σ.2.1 1 i p) 2 i q, σ.2.2)) ⟨?_, fun y hy => ?_⟩
      · exact zA_f (σ := (zth σ.1 i true, zup σ.2.1 1 i p, σ.2.2)) (zA_f (σ := (zth σ.1 i true, σ.2.1, σ.2.2)) (zM_th (b := true) hu).1)
      · rw [dF_n _ _ _ _ _ (by decide), dF_n _ _ _ _ _ (by decide)]
        exact (zM_th (b := true) hu).2 y hy
    refine g_aload_n g dX1_bring_76 rfl rfl ?_
    refine mo_get0 g k dX1_bring_77 ?_
    refine g_iload g dX1_bring_80 rfl ?_
    refine g_aload_n g dX1_bring_82 rfl rfl ?_
    refine mo_call_fits g k dX1_bring_83 (mot_fits l (zbr_ok hs (by omega) hq ha hb hw) hM3) (by decide) (Nat.le_of_ble_eq_true rfl) (fun r u4 ⟨hf4, hr⟩ => ?_)
    have hM4 := hM3.fr hf4 (by decide) (by decide)
    rcases hr with ⟨rfl, hfit⟩ | ⟨rfl, hfit⟩
    · refine mo_st0 g k dX1_bring_86 (rfl) (hi6) (rfl) ?_
      refine g_aload_n g dX1_bring_87 rfl rfl ?_
      refine mo_get0 g k dX1_bring_88 ?_
      refine g_iload g dX1_bring_91 rfl ?_
      refine mo_ld0 g k dX1_bring_93 (rfl) (hi6) ?_
      rw [dF_2, if_pos rfl, if_pos rfl]
      refine g_ifeq (tgt := 102) g dX1_bring_94 (by decide) (Iff.rfl) (fun c7 => ?_) (fun c7 => ?_)
      · exact absurd c7 (by decide)
      · refine g_iload g dX1_bring_97 rfl ?_
        refine g_goto (tgt := 104) g dX1_bring_99 (by decide) ?_
        refine ret _ _ _ _ dX1_bring_104 (⟨fun y => by omega, fun _ => ⟨fun _ => ⟨rfl, ?_⟩, fun y => absurd hfit y⟩⟩)
        refine zM_cg (zM_th (j := i) (b := true) hM4) (fun y hy => ?_) rfl
        show zth (zth σ.1 i true) i true y = zth σ.1 i true y
        unfold zth
        split <;> rfl
    · refine mo_st0 g k dX1_bring_86 (rfl) (hi6) (rfl) ?_
      refine g_aload_n g dX1_bring_87 rfl rfl ?_
      refine mo_get0 g k dX1_bring_88 ?_
      refine g_iload g dX1_bring_91 rfl ?_
      refine mo_ld0 g k dX1_bring_93 (rfl) (hi6) ?_
      rw [dF_2, if_pos rfl, if_pos rfl]
      refine g_ifeq (tgt := 102) g dX1_bring_94 (by decide) (Iff.rfl) (fun c7 => ?_) (fun c7 => ?_)
      rotate_left
      · exact absurd rfl c7
      refine g_bipush (v := (-3)) g dX1_bring_102 (by decide) ?_
      refine ret _ _ _ _ dX1_bring_104 (⟨fun y => by omega, fun _ => ⟨fun y => absurd y hfit, fun _ => ⟨rfl, ?_⟩⟩⟩)
      refine zM_cg (zM_th (j := i) (b := false) hM4) (fun y hy => ?_) rfl
      show zth (zth σ.1 i true) i false y = σ.1 y
      unfold zth
      by_cases hyi : y = i
      · subst hyi; simp [hat hi6]
      · simp [hyi]
  exact loop 0 (by omega)
theorem mot_take (l : Launch) {σ : zT} {u : dS} (hu : zM σ u) (x : Int32) : gMi moC l yX1_take cX1_take 2 (some .boolean) (gR 1 21) [.int x] u (fun r u' => (zh σ.1 x = false → r = 0 ∧ u' = u) ∧ ∀ j, j < 6 → x = nI j → σ.1 j = true → r = 1 ∧ zM (zth σ.1 j false, σ.2.1, σ.2.2) u') := by
  refine gMz_of (by decide +kernel) (Nat.le_of_ble_eq_true rfl) cat1 ?_
  intro E a g k ret
  refine g_loc (lv' := [some (.ref (a 0)), some (.int x)]) rfl ?_
  refine g_aload_n g dX1_take_0 rfl rfl ?_
  refine g_iload_n g dX1_take_1 rfl rfl ?_
  refine mo_call_is g k dX1_take_2 (mot_is l hu x) (by decide) (Nat.le_of_ble_eq_true rfl) (fun r u1 ⟨hu1, hr⟩ => ?_)
  subst hu1 hr
  refine g_ifne (tgt := 10) g dX1_take_5 (by decide) (bI_0) (fun c => ?_) (fun c => ?_)
  rotate_left
  · refine g_iconst (v := 0) g dX1_take_8 (by decide) ?_
    exact ret _ _ _ _ dX1_take_9 (Or.inl rfl) (⟨fun _ => ⟨rfl, rfl⟩, fun j hj hx hth => by rw [hx, zh_in hj, hth] at c; cases c⟩)
  obtain ⟨j, hj, rfl⟩ : ∃ j, j < 6 ∧ x = nI j := by
    rcases n_in x 6 (by decide) with h | h
    · exact absurd (zh_out h) c
    · exact h
  rw [zh_in hj] at c
  refine g_aload_n g dX1_take_10 rfl rfl ?_
  refine mo_get0 g k dX1_take_11 ?_
  refine g_iload_n g dX1_take_14 rfl rfl ?_
  refine g_iconst (v := nI 0) g dX1_take_15 (by decide) ?_
  refine mo_st0 g k dX1_take_16 (rfl) (hj) (rfl) ?_
  refine g_iconst (v := 1) g dX1_take_17 (by decide) ?_
  refine ret _ _ _ _ dX1_take_18 (Or.inr rfl) (⟨fun z => by rw [zh_in hj] at z; exact absurd z c, fun i hi hij hth => ⟨rfl, ?_⟩⟩)
  have hji : j = i := (nI_eq (by omega) (by omega)).mp hij
  subst hji
  exact zM_th (b := false) hu
theorem mot_blocked (l : Launch) {σ : zT} {u : dS} (hu : zM σ u) : gMi moC l yX1_blocked cX1_blocked 1 (some .int) (gR 0 0) [] u (fun r u' => u' = u ∧ r = σ.2.2) := by
  refine gMi_of (by decide +kernel) (Nat.le_of_ble_eq_true rfl) cat0 ?_
  intro E a g k ret
  refine g_loc (lv' := [some (.ref (a 0))]) rfl ?_
  refine g_aload_n g dX1_blocked_0 rfl rfl ?_
  refine mo_get6 g k dX1_blocked_1 ?_
  exact ret _ _ _ _ dX1_blocked_4 (⟨rfl, hu.1.2⟩)
theorem mot_tasks (l : Launch) {σ : zT} {u : dS} (hu : zM σ u) : gMi moC l yX1_tasks cX1_tasks 3 (some .int) (gR 0 0) [] u (fun r u' => u' = u ∧ ∀ j, j < 32 → bt r j = (decide (j < 6) && σ.1 j)) := by
  refine gMi_of (by decide +kernel) (Nat.le_of_ble_eq_true rfl) cat0 ?_
  intro E a g k ret
  refine g_loc (lv' := [some (.ref (a 0)), none, none]) rfl ?_
  refine g_iconst (v := nI 0) g dX1_tasks_0 (by decide) ?_
  refine g_istore_n g dX1_tasks_1 rfl (Nat.le_of_ble_eq_true rfl) ?_
  refine g_iconst (v := nI 0) g dX1_tasks_2 (by decide) ?_
  refine g_istore_n g dX1_tasks_3 rfl (Nat.le_of_ble_eq_true rfl) ?_
  have loop : ∀ i, i ≤ 6 → ∀ x : Int32, (∀ j, j < 32 → bt x j = (decide (j < i) && σ.1 j)) → gG E 4 [some (.ref (a 0)), some (.int x), some (.int (nI i))] [] u := by
    refine zdown 6 (fun i hi ih x hx => ?_)
    refine g_iload_n g dX1_tasks_4 rfl rfl ?_
    refine g_bipush (v := nI 6) g dX1_tasks_5 (by decide) ?_
    refine g_cmpge (tgt := 35) g dX1_tasks_7 (by decide) (nI_leI (by omega) (by omega)) (fun c => ?_) (fun c => ?_)
    · have : i = 6 := by omega
      subst this
      refine g_iload_n g dX1_tasks_35 rfl rfl ?_
      exact ret _ _ _ _ dX1_tasks_36 (⟨rfl, hx⟩)
    have hi6 : i < 6 := by omega
    refine g_iload_n g dX1_tasks_10 rfl rfl ?_
    refine g_aload_n g dX1_tasks_11 rfl rfl ?_
    refine mo_get0 g k dX1_tasks_12 ?_
    refine g_iload_n g dX1_tasks_15 rfl rfl ?_
    refine mo_ld0 g k dX1_tasks_16 (rfl) (hi6) ?_
    rw [hu.2 i hi6]
    refine g_ifeq (tgt := 26) g dX1_tasks_17 (by decide) (bI_0) (fun c2 => ?_) (fun c2 => ?_)
    · refine g_iconst (v := 0) g dX1_tasks_26 (by decide) ?_
      refine g_ior g dX1_tasks_27 ?_
      refine g_istore_n g dX1_tasks_28 rfl (Nat.le_of_ble_eq_true rfl) ?_
      refine g_iinc g dX1_tasks_29 rfl (n_inc _) ?_
      refine g_goto (tgt := 4) g dX1_tasks_32 (by decide) ?_
      refine ih hi6 _ (fun j hj => ?_)
      rw [b_or, b_0, Bool.or_false, hx j hj]
      by_cases hji : j = i
      · subst hji; simp [c2]
      · rw [show decide (j < i + 1) = decide (j < i) by simp only [show (j < i + 1) ↔ (j < i) by omega]]
    · refine g_iconst (v := 1) g dX1_tasks_20 (by decide) ?_
      refine g_iload_n g dX1_tasks_21 rfl rfl ?_
      refine g_ishl g dX1_tasks_22 ?_
      refine g_goto (tgt := 27) g dX1_tasks_23 (by decide) ?_
      refine g_ior g dX1_tasks_27 ?_
      refine g_istore_n g dX1_tasks_28 rfl (Nat.le_of_ble_eq_true rfl) ?_
      refine g_iinc g dX1_tasks_29 rfl (n_inc _) ?_
      refine g_goto (tgt := 4) g dX1_tasks_32 (by decide) ?_
      refine ih hi6 _ (fun j hj => ?_)
      rw [b_set (by omega) hj, hx j hj]
      by_cases hji : j = i
      · subst hji; simp [eq_true_of_ne_false c2]
      · rw [show decide (j < i + 1) = decide (j < i) by simp only [show (j < i + 1) ↔ (j < i) by omega]]
        simp [hji]
  refine loop 0 (by omega) _ (fun j hj => ?_)
  simp only [show ¬ j < 0 by omega, decide_false, Bool.false_and]
  exact b_0 j
set_option maxHeartbeats 1000000 in
theorem mot_block (l : Launch) {σ : zT} {u : dS} (hs : zOk σ) (hu : zM σ u) (x : Int32) (b : Bool) : gMi moC l yX1_block cX1_block 4 (some .int) (gR 3 68) [.int x, .int (bI b)] u (fun r u' => ((x < 0 ∨ nI 24 ≤ x) → r = -1 ∧ u' = u) ∧ ∀ t, t < 24 → x = nI t → (zfit (σ.1, σ.2.1, zbl σ.2.2 t b) → r = nI t ∧ zM (σ.1, σ.2.1, zbl σ.2.2 t b) u') ∧ (¬ zfit (σ.1, σ.2.1, zbl σ.2.2 t b) → r = -3 ∧ zM σ u')) := by
  refine gMi_of (by decide +kernel) (Nat.le_of_ble_eq_true rfl) cat2 ?_
  intro E a g k ret
  refine g_loc (lv' := [some (.ref (a 0)), some (.int x), some (.int (bI b)), none]) rfl ?_
  refine g_iload_n g dX1_block_0 rfl rfl ?_
  refine g_iflt (tgt := 10) g dX1_block_1 (by decide) (Iff.rfl) (fun c1 => ?_) (fun c1 => ?_)
  · refine g_iconst (v := (-1)) g dX1_block_10 (by decide) ?_
    exact ret _ _ _ _ dX1_block_11 (⟨fun _ => ⟨rfl, rfl⟩, fun t ht hx => absurd c1 (by rw [hx]; exact nI_pos (by omega))⟩)
  refine g_iload_n g dX1_block_4 rfl rfl ?_
  refine g_bipush (v := nI 23) g dX1_block_5 (by decide) ?_
  refine g_cmple (tgt := 12) g dX1_block_7 (by decide) (Iff.rfl) (fun c2 => ?_) (fun c2 => ?_)
  rotate_left
  · refine g_iconst (v := (-1)) g dX1_block_10 (by decide) ?_
    exact ret _ _ _ _ dX1_block_11 (⟨fun _ => ⟨rfl, rfl⟩, fun t ht hx => absurd (by rw [hx]; exact nI_le (by omega) (by omega)) c2⟩)
  obtain ⟨t, ht, rfl⟩ : ∃ t, t < 24 ∧ x = nI t := by
    rcases n_in x 24 (by decide) with (h | h) | h
    · exact absurd h c1
    · rw [Int32.le_iff_toInt_le, nI_toInt (by omega)] at c2; rw [Int32.le_iff_toInt_le, nI_toInt (by omega)] at h; omega
    · exact h
  have bad : ¬ (nI t < 0 ∨ nI 24 ≤ nI t) := by
    rintro (z | z)
    · exact c1 z
    · rw [nI_leI (by omega) (by omega)] at z; omega
  refine g_aload_n g dX1_block_12 rfl rfl ?_
  refine mo_get6 g k dX1_block_13 ?_
  refine g_istore_n g dX1_block_16 rfl (Nat.le_of_ble_eq_true rfl) ?_
  rw [hu.1.2]
  have rest : ∀ B : Int32, B = zbl σ.2.2 t b → gG E 43 [some (.ref (a 0)), some (.int (nI t)), some (.int (bI b)), some (.int σ.2.2)] [.int B, .ref (a 0)] u := by
    rintro B rfl
    refine mo_put6 g k dX1_block_43 ?_
    refine g_aload_n g dX1_block_46 rfl rfl ?_
    refine mo_call_fits g k dX1_block_47 (mot_fits l (σ := (σ.1, σ.2.1, zbl σ.2.2 t b)) hs (zM_b hu)) (by decide) (Nat.le_of_ble_eq_true rfl) (fun r u1 ⟨hf1, hr⟩ => ?_)
    have hu1 : zM (σ.1, σ.2.1, zbl σ.2.2 t b) u1 := (zM_b hu).fr hf1 (by decide) (by decide)
    rcases hr with ⟨rfl, hfit⟩ | ⟨rfl, hfit⟩
    · refine g_ifeq (tgt := 55) g dX1_block_50 (by decide) (Iff.rfl) (fun c3 => ?_) (fun c3 => ?_)
      · exact absurd c3 (by decide)
      refine g_iload_n g dX1_block_53 rfl rfl ?_
      refine ret _ _ _ _ dX1_block_54 (⟨fun z => absurd z bad, fun t' ht' hx => ?_⟩)
      have : t = t' := (nI_eq (by omega) (by omega)).mp hx
      subst this
      exact ⟨fun _ => ⟨rfl, hu1⟩, fun z => absurd hfit z⟩
    · refine g_ifeq (tgt := 55) g dX1_block_50 (by decide) (Iff.rfl) (fun c3 => ?_) (fun c3 => ?_)
      rotate_left
      · exact absurd rfl c3
      refine g_aload_n g dX1_block_55 rfl rfl ?_
      refine g_iload_n g dX1_block_56 rfl rfl ?_
      refine mo_put6 g k dX1_block_57 ?_
      refine g_bipush (v := (-3)) g dX1_block_60 (by decide) ?_
      refine ret _ _ _ _ dX1_block_62 (⟨fun z => absurd z bad, fun t' ht' hx => ?_⟩)
      have : t = t' := (nI_eq (by omega) (by omega)).mp hx
      subst this
      exact ⟨fun z => absurd z hfit, fun _ => ⟨rfl, zM_b (σ := (σ.1, σ.2.1, zbl σ.2.2 t b)) hu1⟩⟩
  refine g_aload_n g dX1_block_17 rfl rfl ?_
  refine g_iload_n g dX1_block_18 rfl rfl ?_
  refine g_ifeq (tgt := 33) g dX1_block_19 (by decide) (bI_0) (fun c3 => ?_) (fun c3 => ?_)
  · refine g_aload_n g dX1_block_33 rfl rfl ?_
    refine mo_get6 g k dX1_block_34 ?_
    rw [hu.1.2]
    refine g_iconst (v := 1) g dX1_block_37 (by decide) ?_
    refine g_iload_n g dX1_block_38 rfl rfl ?_
    refine g_ishl g dX1_block_39 ?_
    refine g_iconst (v := (-1)) g dX1_block_40 (by decide) ?_
    refine g_ixor g dX1_block_41 ?_
    refine g_iand g dX1_block_42 ?_
    exact rest _ (by unfold zbl; rw [c3]; rfl)
  · refine g_aload_n g dX1_block_22 rfl rfl ?_
    refine mo_get6 g k dX1_block_23 ?_
    rw [hu.1.2]
    refine g_iconst (v := 1) g dX1_block_26 (by decide) ?_
    refine g_iload_n g dX1_block_27 rfl rfl ?_
    refine g_ishl g dX1_block_28 ?_
    refine g_ior g dX1_block_29 ?_
    refine g_goto (tgt := 43) g dX1_block_30 (by decide) ?_
    exact rest _ (by unfold zbl; rw [eq_true_of_ne_false c3]; rfl)
theorem mot_change_bad (l : Launch) {σ : zT} {u : dS} (hu : zM σ u) (x y : Int32) (hbad : zh σ.1 x = false ∨ ¬ zpkP y) : gMi moC l yX1_change cX1_change 4 (some .int) (gR 3 68) [.int x, .int y] u (fun r u' => r = -1 ∧ u' = u) := by
  refine gMi_of (by decide +kernel) (Nat.le_of_ble_eq_true rfl) cat2 ?_
  intro E a g k ret
  refine g_loc (lv' := [some (.ref (a 0)), some (.int x), some (.int y), none]) rfl ?_
  refine g_aload_n g dX1_change_0 rfl rfl ?_
  refine g_iload_n g dX1_change_1 rfl rfl ?_
  refine mo_call_is g k dX1_change_2 (mot_is l hu x) (by decide) (Nat.le_of_ble_eq_true rfl) (fun r u1 ⟨hu1, hr⟩ => ?_)
  subst hu1 hr
  refine g_ifeq (tgt := 16) g dX1_change_5 (by decide) (bI_0) (fun c => ?_) (fun c => ?_)
  · refine g_iconst (v := (-1)) g dX1_change_16 (by decide) ?_
    exact ret _ _ _ _ dX1_change_17 (⟨rfl, rfl⟩)
  refine g_aload_n g dX1_change_8 rfl rfl ?_
  refine g_iload_n g dX1_change_9 rfl rfl ?_
  refine mo_call_form g k dX1_change_10 (mot_form l _ y) (by decide) (Nat.le_of_ble_eq_true rfl) (fun r u2 ⟨hu2, hr⟩ => ?_)
  subst hu2
  rcases hr with ⟨rfl, h⟩ | ⟨rfl, h⟩
  · rcases hbad with z | z
    · exact absurd z c
    · exact absurd h z
  · refine g_ifne (tgt := 18) g dX1_change_13 (by decide) (Iff.rfl) (fun c2 => ?_) (fun c2 => ?_)
    · exact absurd rfl c2
    · refine g_iconst (v := (-1)) g dX1_change_16 (by decide) ?_
      exact ret _ _ _ _ dX1_change_17 (⟨rfl, rfl⟩)
set_option maxHeartbeats 1000000 in
theorem mot_change (l : Launch) {σ : zT} {u : dS} {j a1 b1 w1 : Nat} {y : Int32} (hs : zOk σ) (hu : zM σ u) (hj : j < 6) (hth : σ.1 j = true) (hy : zpkP y) (hx : zpk y a1 b1 w1) (ha : a1 ≤ 6) (hb : b1 ≤ 6) (hw : w1 ≤ 9) : gMi moC l yX1_change cX1_change 4 (some .int) (gR 3 68) [.int (nI j), .int y] u (fun r u' => (zfit (zst3 σ j a1 b1 w1) → r = nI j ∧ zM (zst3 σ j a1 b1 w1) u') ∧ (¬ zfit (zst3 σ j a1 b1 w1) → r = -3 ∧ zM σ u')) := by
  refine gMi_of (by decide +kernel) (Nat.le_of_ble_eq_true rfl) cat2 ?_
  intro E a g k ret
  have hbd := hs j hj
  refine g_loc (lv' := [some (.ref (a 0)), some (.int (nI j)), some (.int y), none]) rfl ?_
  refine g_aload_n g dX1_change_0 rfl rfl ?_
  refine g_iload_n g dX1_change_1 rfl rfl ?_
  refine mo_call_is g k dX1_change_2 (mot_is l hu (nI j)) (by decide) (Nat.le_of_ble_eq_true rfl) (fun r u1 ⟨hu1, hr⟩ => ?_)
  rw [zh_in hj, hth] at hr
  subst hu1 hr
  refine g_ifeq (tgt := 16) g dX1_change_5 (by decide) (bI_0) (fun c => ?_) (fun c => ?_)
  · cases c
  refine g_aload_n g dX1_change_8 rfl rfl ?_
  refine g_iload_n g dX1_change_9 rfl rfl ?_
  refine mo_call_form g k dX1_change_10 (mot_form l _ y) (by decide) (Nat.le_of_ble_eq_true rfl) (fun r u2 ⟨hu2, hr⟩ => ?_)
  subst hu2
  rcases hr with ⟨rfl, -⟩ | ⟨rfl, h⟩
  rotate_left
  · exact absurd hy h
  refine g_ifne (tgt := 18) g dX1_change_13 (by decide) (Iff.rfl) (fun c2 => ?_) (fun c2 => ?_)
  rotate_left
  · exact absurd c2 (by decide)
  refine g_aload_n g dX1_change_18 rfl rfl ?_
  refine mo_get3 g k dX1_change_19 ?_
  refine g_iload_n g dX1_change_22 rfl rfl ?_
  refine mo_ld3 g k dX1_change_23 (rfl) (hj) ?_
  rw [hu.1.1 3 (by omega) (by omega) j hj]
  refine g_bipush (v := nI 8) g dX1_change_24 (by decide) ?_
  refine g_aload_n g dX1_change_26 rfl rfl ?_
  refine mo_get4 g k dX1_change_27 ?_
  refine g_iload_n g dX1_change_30 rfl rfl ?_
  refine mo_ld4 g k dX1_change_31 (rfl) (hj) ?_
  rw [hu.1.1 4 (by omega) (by omega) j hj]
  refine g_imul g dX1_change_32 ?_
  refine g_iadd g dX1_change_33 ?_
  refine g_bipush (v := nI 64) g dX1_change_34 (by decide) ?_
  refine g_aload_n g dX1_change_36 rfl rfl ?_
  refine mo_get5 g k dX1_change_37 ?_
  refine g_iload_n g dX1_change_40 rfl rfl ?_
  refine mo_ld5 g k dX1_change_41 (rfl) (hj) ?_
  rw [hu.1.1 5 (by omega) (by omega) j hj]
  refine g_imul g dX1_change_42 ?_
  refine g_iadd g dX1_change_43 ?_
  refine g_istore_n g dX1_change_44 rfl (Nat.le_of_ble_eq_true rfl) ?_
  refine g_aload_n g dX1_change_45 rfl rfl ?_
  refine g_iload_n g dX1_change_46 rfl rfl ?_
  refine g_iload_n g dX1_change_47 rfl rfl ?_
  refine mo_call_hold g k dX1_change_48 (mot_hold l _ hj hx) (by decide) (Nat.le_of_ble_eq_true rfl) (fun u3 hu3 => ?_)
  have hM3 : zM (zst3 σ j a1 b1 w1) u3 := by rw [hu3]; exact zM_hold hu
  refine g_aload_n g dX1_change_51 rfl rfl ?_
  refine mo_call_fits g k dX1_change_52 (mot_fits l (zst3_ok hs ha hb hw) hM3) (by decide) (Nat.le_of_ble_eq_true rfl) (fun r u4 ⟨hf4, hr⟩ => ?_)
  have hM4 : zM (zst3 σ j a1 b1 w1) u4 := hM3.fr hf4 (by decide) (by decide)
  rcases hr with ⟨rfl, hfit⟩ | ⟨rfl, hfit⟩
  · refine g_ifeq (tgt := 60) g dX1_change_55 (by decide) (Iff.rfl) (fun c3 => ?_) (fun c3 => ?_)
    · exact absurd c3 (by decide)
    · refine g_iload_n g dX1_change_58 rfl rfl ?_
      exact ret _ _ _ _ dX1_change_59 (⟨fun _ => ⟨rfl, hM4⟩, fun z => absurd hfit z⟩)
  · refine g_ifeq (tgt := 60) g dX1_change_55 (by decide) (Iff.rfl) (fun c3 => ?_) (fun c3 => ?_)
    rotate_left
    · exact absurd rfl c3
    refine g_aload_n g dX1_change_60 rfl rfl ?_
    refine g_iload_n g dX1_change_61 rfl rfl ?_
    refine g_iload_n g dX1_change_62 rfl rfl ?_
    refine mo_call_hold g k dX1_change_63 (mot_hold l _ hj (zpk_self (a := σ.2.1 3 j) (b := σ.2.1 4 j) (w := σ.2.1 5 j) (by omega) (by omega) (by omega))) (by decide) (Nat.le_of_ble_eq_true rfl) (fun u5 hu5 => ?_)
    refine g_bipush (v := (-3)) g dX1_change_66 (by decide) ?_
    exact ret _ _ _ _ dX1_change_68 (⟨fun z => absurd z hfit, fun _ => ⟨rfl, by rw [hu5]; have := zM_hold (j := j) (a := σ.2.1 3 j) (b := σ.2.1 4 j) (w := σ.2.1 5 j) hM4; rw [zst3_back] at this; exact this⟩⟩)
end
section
/-! Model: before, sort, next, lost, possible, keepBest -/
theorem mot_before (l : Launch) {σ : zT} {u : dS} {i j : Nat} (hs : zOk σ) (hu : zM σ u) (hi : i < 6) (hj : j < 6) : gMi moC l yX1_before cX1_before 3 (some .boolean) (gR 0 0) [.int (nI i), .int (nI j)] u (fun r u' => u' = u ∧ r = bI (zbb σ i j)) := by
  refine gMz_of (by decide +kernel) (Nat.le_of_ble_eq_true rfl) cat2 ?_
  intro E a g k ret
  have h1 := hs i hi
  have h2 := hs j hj
  refine g_loc (lv' := [some (.ref (a 0)), some (.int (nI i)), some (.int (nI j))]) rfl ?_
  refine g_aload_n g dX1_before_0 rfl rfl ?_
  refine mo_get5 g k dX1_before_1 ?_
  refine g_iload_n g dX1_before_4 rfl rfl ?_
  refine mo_ld5 g k dX1_before_5 (rfl) (hi) ?_
  rw [hu.1.1 5 (by omega) (by omega) i hi]
  refine g_aload_n g dX1_before_6 rfl rfl ?_
  refine mo_get5 g k dX1_before_7 ?_
  refine g_iload_n g dX1_before_10 rfl rfl ?_
  refine mo_ld5 g k dX1_before_11 (rfl) (hj) ?_
  rw [hu.1.1 5 (by omega) (by omega) j hj]
  refine g_cmpgt (tgt := 35) g dX1_before_12 (by decide) (nI_ltI (by omega) (by omega)) (fun c1 => ?_) (fun c1 => ?_)
  · refine g_iconst (v := 1) g dX1_before_35 (by decide) ?_
    refine g_goto (tgt := 40) g dX1_before_36 (by decide) ?_
    exact ret _ _ _ _ dX1_before_40 (Or.inr rfl) (⟨rfl, by unfold zbb; rw [decide_eq_true c1]; rfl⟩)
  refine g_aload_n g dX1_before_15 rfl rfl ?_
  refine mo_get5 g k dX1_before_16 ?_
  refine g_iload_n g dX1_before_19 rfl rfl ?_
  refine mo_ld5 g k dX1_before_20 (rfl) (hi) ?_
  rw [hu.1.1 5 (by omega) (by omega) i hi]
  refine g_aload_n g dX1_before_21 rfl rfl ?_
  refine mo_get5 g k dX1_before_22 ?_
  refine g_iload_n g dX1_before_25 rfl rfl ?_
  refine mo_ld5 g k dX1_before_26 (rfl) (hj) ?_
  rw [hu.1.1 5 (by omega) (by omega) j hj]
  refine g_cmpne (tgt := 39) g dX1_before_27 (by decide) (nI_eq (by omega) (by omega)) (fun c2 => ?_) (fun c2 => ?_)
  · refine g_iconst (v := 0) g dX1_before_39 (by decide) ?_
    exact ret _ _ _ _ dX1_before_40 (Or.inl rfl) (⟨rfl, by unfold zbb; rw [decide_eq_false c1, decide_eq_false c2]; rfl⟩)
  refine g_iload_n g dX1_before_30 rfl rfl ?_
  refine g_iload_n g dX1_before_31 rfl rfl ?_
  refine g_cmpge (tgt := 39) g dX1_before_32 (by decide) (nI_leI (by omega) (by omega)) (fun c3 => ?_) (fun c3 => ?_)
  · refine g_iconst (v := 0) g dX1_before_39 (by decide) ?_
    exact ret _ _ _ _ dX1_before_40 (Or.inl rfl) (⟨rfl, by unfold zbb; rw [decide_eq_false c1, decide_eq_false (show ¬ i < j by omega), Bool.and_false]; rfl⟩)
  · refine g_iconst (v := 1) g dX1_before_35 (by decide) ?_
    refine g_goto (tgt := 40) g dX1_before_36 (by decide) ?_
    exact ret _ _ _ _ dX1_before_40 (Or.inr rfl) (⟨rfl, by unfold zbb; rw [decide_eq_true c2, decide_eq_true (show i < j by omega), Bool.and_true, Bool.or_true]; rfl⟩)
theorem zpl_b (σ : zT) (j : Nat) : zpl σ j ≤ 6 := by
  have : zpl σ j ≤ 6 * 1 := zs_bound (fun i _ => by split <;> omega)
  omega
set_option maxHeartbeats 1000000 in
theorem mot_sort (l : Launch) {σ : zT} {u : dS} (hs : zOk σ) (hu : zM σ u) : gMv moC l yX1_sort cX1_sort 4 (gR 1 22) [] u (fun u' => dFr [9] [10] u u' ∧ ∃ od, zOrd σ od (zcnt σ) ∧ u'.1 9 = nI (zcnt σ) ∧ ∀ q, q < zcnt σ → u'.2 10 q = nI (od q)) := by
  refine gMv_of (by decide +kernel) (Nat.le_of_ble_eq_true rfl) cat0 ?_
  intro E a g k ret
  refine g_loc (lv' := [some (.ref (a 0)), none, none, none]) rfl ?_
  refine g_aload_n g dX1_sort_0 rfl rfl ?_
  refine g_iconst (v := nI 0) g dX1_sort_1 (by decide) ?_
  refine mo_put9 g k dX1_sort_2 ?_
  refine g_iconst (v := nI 0) g dX1_sort_5 (by decide) ?_
  refine g_istore_n g dX1_sort_6 rfl (Nat.le_of_ble_eq_true rfl) ?_
  have outer : ∀ i, i ≤ 6 → ∀ u1 : dS, dFr [9] [10] u u1 → u1.1 9 = nI (zs (fun j => if σ.1 j = true then 1 else 0) i) → (∀ j, j < i → σ.1 j = true → u1.2 10 (zpl σ j) = nI j) → gG E 7 [some (.ref (a 0)), some (.int (nI i)), none, none] [] u1 := by
    refine zdown 6 (fun i hi ih u1 hf h9 h10 => ?_)
    have hu1 : zM σ u1 := hu.fr hf (by decide) (by decide)
    refine g_iload_n g dX1_sort_7 rfl rfl ?_
    refine g_bipush (v := nI 6) g dX1_sort_8 (by decide) ?_
    refine g_cmpge (tgt := 92) g dX1_sort_10 (by decide) (nI_leI (by omega) (by omega)) (fun c => ?_) (fun c => ?_)
    · have : i = 6 := by omega
      subst this
      refine ret _ _ _ dX1_sort_92 (⟨hf, fun q => (u1.2 10 q).toNatClampNeg, zOrd_of (fun j hj hth => by show (u1.2 10 (zpl σ j)).toNatClampNeg = j; rw [h10 j hj hth, nI_clamp (by omega)]), h9, fun q hq => ?_⟩)
      obtain ⟨j, a1, a2, a3⟩ := zpl_sur hq
      show u1.2 10 q = nI (u1.2 10 q).toNatClampNeg
      rw [← a3, h10 j a1 a2, nI_clamp (by omega)]
    have hi6 : i < 6 := by omega
    refine g_iconst (v := nI 0) g dX1_sort_13 (by decide) ?_
    refine g_istore_n g dX1_sort_14 rfl (Nat.le_of_ble_eq_true rfl) ?_
    refine g_iconst (v := nI 0) g dX1_sort_15 (by decide) ?_
    refine g_istore_n g dX1_sort_16 rfl (Nat.le_of_ble_eq_true rfl) ?_
    have inner : ∀ q, q ≤ 6 → gG E 17 [some (.ref (a 0)), some (.int (nI i)), some (.int (nI (zs (fun j => if (σ.1 j && zbb σ j i) = true then 1 else 0) q))), some (.int (nI q))] [] u1 := by
      refine zdown 6 (fun q hq ihq => ?_)
      refine g_iload_n g dX1_sort_17 rfl rfl ?_
      refine g_bipush (v := nI 6) g dX1_sort_18 (by decide) ?_
      refine g_cmpge (tgt := 60) g dX1_sort_20 (by decide) (nI_leI (by omega) (by omega)) (fun c2 => ?_) (fun c2 => ?_)
      · have : q = 6 := by omega
        subst this
        refine g_aload_n g dX1_sort_60 rfl rfl ?_
        refine mo_get0 g k dX1_sort_61 ?_
        refine g_iload_n g dX1_sort_64 rfl rfl ?_
        refine mo_ld0 g k dX1_sort_65 (rfl) (hi6) ?_
        rw [hu1.2 i hi6]
        have hz := zpl_b σ i
        refine g_ifeq (tgt := 86) g dX1_sort_66 (by decide) (bI_0) (fun c3 => ?_) (fun c3 => ?_)
        · refine g_iinc g dX1_sort_86 rfl (n_inc _) ?_
          refine g_goto (tgt := 7) g dX1_sort_89 (by decide) ?_
          refine g_forget 2 (g_forget 3 ?_)
          refine ih hi6 u1 hf ?_ (fun j hj hth => ?_)
          · rw [h9]
            show _ = nI (zs (fun j => if σ.1 j = true then 1 else 0) i + (if σ.1 i = true then 1 else 0))
            rw [c3]; rfl
          · by_cases hji : j = i
            · subst hji; rw [hth] at c3; cases c3
            · exact h10 j (by omega) hth
        have hth := eq_true_of_ne_false c3
        have hz6 : zpl σ i < 6 := by
          have h1 := zpl_c hi6 hth
          have h2 : zcnt σ ≤ 6 * 1 := zs_bound (fun j _ => by split <;> omega)
          omega
        refine g_aload_n g dX1_sort_69 rfl rfl ?_
        refine mo_get10 g k dX1_sort_70 ?_
        refine g_iload_n g dX1_sort_73 rfl rfl ?_
        refine g_iload_n g dX1_sort_74 rfl rfl ?_
        refine mo_st10 g k dX1_sort_75 (rfl) (hz6) ?_
        refine g_aload_n g dX1_sort_76 rfl rfl ?_
        refine g_dup g dX1_sort_77 rfl ?_
        refine mo_get9 g k dX1_sort_78 ?_
        refine g_iconst (v := 1) g dX1_sort_81 (by decide) ?_
        refine g_iadd g dX1_sort_82 ?_
        refine g_top (v := nI (zs (fun j => if σ.1 j = true then 1 else 0) (i + 1))) ?_ ?_
        · rw [dF_1, h9]
          show _ = nI (zs (fun j => if σ.1 j = true then 1 else 0) i + (if σ.1 i = true then 1 else 0))
          rw [hth]
          exact nI_1 _
        refine mo_put9 g k dX1_sort_83 ?_
        refine g_iinc g dX1_sort_86 rfl (n_inc _) ?_
        refine g_goto (tgt := 7) g dX1_sort_89 (by decide) ?_
        refine g_forget 2 (g_forget 3 ?_)
        refine ih hi6 _ ((hf.f (by decide)).i (by decide)) (by rw [dI_1, if_pos rfl]) (fun j hj hth2 => ?_)
        rw [dI_2, dF_2, if_pos rfl]
        show (if zpl σ j = zpl σ i then nI i else u1.2 10 (zpl σ j)) = nI j
        by_cases hji : j = i
        · subst hji
          exact if_pos rfl
        · rw [if_neg (fun z => hji (zpl_inj (by omega) hi6 hth2 hth z))]
          exact h10 j (by omega) hth2
      have hq6 : q < 6 := by omega
      have nx := ihq hq6
      have e0 : zs (fun j => if (σ.1 j && zbb σ j i) = true then 1 else 0) (q + 1) = zs (fun j => if (σ.1 j && zbb σ j i) = true then 1 else 0) q + (if (σ.1 q && zbb σ q i) = true then 1 else 0) := rfl
      rw [e0] at nx
      have zero : (σ.1 q && zbb σ q i) = false → gG E 51 [some (.ref (a 0)), some (.int (nI i)), some (.int (nI (zs (fun j => if (σ.1 j && zbb σ j i) = true then 1 else 0) q))), some (.int (nI q))] [.int (nI (zs (fun j => if (σ.1 j && zbb σ j i) = true then 1 else 0) q))] u1 := by
        intro hz
        rw [hz] at nx
        refine g_iconst (v := 0) g dX1_sort_51 (by decide) ?_
        refine g_iadd g dX1_sort_52 ?_
        refine g_top (nI_add _ 0) ?_
        refine g_istore_n g dX1_sort_53 rfl (Nat.le_of_ble_eq_true rfl) ?_
        refine g_iinc g dX1_sort_54 rfl (n_inc _) ?_
        refine g_goto (tgt := 17) g dX1_sort_57 (by decide) ?_
        exact nx
      refine g_iload_n g dX1_sort_23 rfl rfl ?_
      refine g_aload_n g dX1_sort_24 rfl rfl ?_
      refine mo_get0 g k dX1_sort_25 ?_
      refine g_iload_n g dX1_sort_28 rfl rfl ?_
      refine mo_ld0 g k dX1_sort_29 (rfl) (hq6) ?_
      rw [hu1.2 q hq6]
      refine g_ifeq (tgt := 51) g dX1_sort_30 (by decide) (bI_0) (fun c3 => ?_) (fun c3 => ?_)
      · exact zero (by rw [c3]; rfl)
      refine g_iload_n g dX1_sort_33 rfl rfl ?_
      refine g_iload_n g dX1_sort_34 rfl rfl ?_
      refine g_cmpeq (tgt := 51) g dX1_sort_35 (by decide) (nI_eq (by omega) (by omega)) (fun c4 => ?_) (fun c4 => ?_)
      · refine zero ?_
        subst c4
        cases hz : zbb σ q q with
        | false => exact Bool.and_false _
        | true => have := zbb_iff.mp hz; unfold zbf at this; omega
      refine g_aload_n g dX1_sort_38 rfl rfl ?_
      refine g_iload_n g dX1_sort_39 rfl rfl ?_
      refine g_iload_n g dX1_sort_40 rfl rfl ?_
      refine mo_call_before g k dX1_sort_41 (mot_before l hs hu1 hq6 hi6) (by decide) (Nat.le_of_ble_eq_true rfl) (fun r u2 ⟨hu2, hr⟩ => ?_)
      rw [hu2, hr]
      refine g_ifeq (tgt := 51) g dX1_sort_44 (by decide) (bI_0) (fun c5 => ?_) (fun c5 => ?_)
      · exact zero (by rw [c5]; exact Bool.and_false _)
      rw [eq_true_of_ne_false c3, eq_true_of_ne_false c5] at nx
      refine g_iconst (v := nI 1) g dX1_sort_47 (by decide) ?_
      refine g_goto (tgt := 52) g dX1_sort_48 (by decide) ?_
      refine g_iadd g dX1_sort_52 ?_
      rw [nI_add]
      refine g_istore_n g dX1_sort_53 rfl (Nat.le_of_ble_eq_true rfl) ?_
      refine g_iinc g dX1_sort_54 rfl (n_inc _) ?_
      refine g_goto (tgt := 17) g dX1_sort_57 (by decide) ?_
      exact nx
    exact inner 0 (by omega)
  exact outer 0 (by omega) _ (dFr.rf.i (by decide)) (by rw [dI_1, if_pos rfl]; rfl) (fun j hj => absurd hj (by omega))
theorem pm_s (k : Nat) : nI (k + 1) - 1 = nI k := nI_pred k
theorem pm_0 : nI 0 - 1 = -1 := by decide +kernel
theorem pm_d (k : Nat) : nI k + Int32.ofInt (-1) = nI k - 1 := by
  have : Int32.ofInt (-1) = -1 := by decide +kernel
  rw [this]
  grind
set_option maxHeartbeats 1000000 in
theorem mot_next (l : Launch) {σ : zT} {u : dS} {od v : Nat → Nat} {c0 : Nat} (hs : zOk σ) (hu : zM σ u) (hO : zOrd σ od c0) (h9 : u.1 9 = nI c0) (h10 : ∀ q, q < c0 → u.2 10 q = nI (od q)) (h11 : ∀ j, j < 6 → u.2 11 j = nI (v j) ∧ v j ≤ 6) (hv : ∀ q, q < c0 → v (od q) ≤ σ.2.1 4 (od q)) : gMi moC l yX1_next cX1_next 3 (some .boolean) (gR 0 0) [] u (fun r u' => dFr [] [11] u u' ∧ ((r = nI 1 ∧ ∃ v', (∀ j, j < 6 → u'.2 11 j = nI (v' j) ∧ v' j ≤ 6) ∧ (∀ q, q < c0 → v' (od q) ≤ σ.2.1 4 (od q)) ∧ zrk (σ.2.1 4) od v' c0 = zrk (σ.2.1 4) od v c0 + 1) ∨ (r = nI 0 ∧ ∀ q, q < c0 → v (od q) = 0))) := by
  refine gMz_of (by decide +kernel) (Nat.le_of_ble_eq_true rfl) cat0 ?_
  intro E a g k ret
  have hc6 := hO.1
  have hinj := hO.inj
  refine g_loc (lv' := [some (.ref (a 0)), none, none]) rfl ?_
  refine g_aload_n g dX1_next_0 rfl rfl ?_
  refine mo_get9 g k dX1_next_1 ?_
  rw [h9]
  refine g_iconst (v := 1) g dX1_next_4 (by decide) ?_
  refine g_isub g dX1_next_5 ?_
  refine g_istore_n g dX1_next_6 rfl (Nat.le_of_ble_eq_true rfl) ?_
  have loop : ∀ m, m ≤ c0 → ∀ (u1 : dS) (v1 : Nat → Nat), dFr [] [11] u u1 → (∀ j, j < 6 → u1.2 11 j = nI (v1 j) ∧ v1 j ≤ 6) → (∀ q, q < m → v1 (od q) = v (od q)) → (∀ q, m ≤ q → q < c0 → v (od q) = 0 ∧ v1 (od q) = σ.2.1 4 (od q)) → gG E 7 [some (.ref (a 0)), some (.int (nI m - 1)), none] [] u1 := by
    intro m
    induction m with
    | zero =>
      intro _ u1 v1 hf hv1 hlo hhi
      rw [pm_0]
      refine g_iload_n g dX1_next_7 rfl rfl ?_
      refine g_iflt (tgt := 57) g dX1_next_8 (by decide) (n_m1lt) (fun c1 => ?_) (fun c1 => ?_)
      · refine g_iconst (v := 0) g dX1_next_57 (by decide) ?_
        exact ret _ _ _ _ dX1_next_58 (Or.inl rfl) (⟨hf, Or.inr ⟨rfl, fun q hq => (hhi q (by omega) hq).1⟩⟩)
      · exact absurd trivial c1
    | succ m ih =>
      intro hm u1 v1 hf hv1 hlo hhi
      have hu1 : zM σ u1 := hu.fr hf (by decide) (by decide)
      have hod := (hO.2.1 m (by omega)).1
      have hbd := hs (od m) hod
      rw [pm_s]
      refine g_iload_n g dX1_next_7 rfl rfl ?_
      refine g_iflt (tgt := 57) g dX1_next_8 (by decide) (n_lt0 (by omega)) (fun c1 => ?_) (fun c1 => ?_)
      · exact c1.elim
      refine g_aload_n g dX1_next_11 rfl rfl ?_
      refine mo_get10 g k dX1_next_12 ?_
      refine g_iload_n g dX1_next_15 rfl rfl ?_
      refine mo_ld10 g k dX1_next_16 (rfl) (by omega) ?_
      rw [hf.2 10 (by decide), h10 m (by omega)]
      refine g_istore_n g dX1_next_17 rfl (Nat.le_of_ble_eq_true rfl) ?_
      refine g_aload_n g dX1_next_18 rfl rfl ?_
      refine mo_get11 g k dX1_next_19 ?_
      refine g_iload_n g dX1_next_22 rfl rfl ?_
      refine mo_ld11 g k dX1_next_23 (rfl) (hod) ?_
      rw [(hv1 _ hod).1]
      have hv6 := (hv1 _ hod).2
      refine g_ifle (tgt := 39) g dX1_next_24 (by decide) (n_le0 (by omega)) (fun c2 => ?_) (fun c2 => ?_)
      · refine g_aload_n g dX1_next_39 rfl rfl ?_
        refine mo_get11 g k dX1_next_40 ?_
        refine g_iload_n g dX1_next_43 rfl rfl ?_
        refine g_aload_n g dX1_next_44 rfl rfl ?_
        refine mo_get4 g k dX1_next_45 ?_
        refine g_iload_n g dX1_next_48 rfl rfl ?_
        refine mo_ld4 g k dX1_next_49 (rfl) (hod) ?_
        rw [hu1.1.1 4 (by omega) (by omega) _ hod]
        refine mo_st11 g k dX1_next_50 (rfl) (hod) ?_
        refine g_iinc g dX1_next_51 rfl (pm_d m) ?_
        refine g_goto (tgt := 7) g dX1_next_54 (by decide) ?_
        refine g_forget 2 ?_
        refine ih (by omega) _ (fun j => if j = od m then σ.2.1 4 (od m) else v1 j) (hf.f (by decide)) (fun j hj => ?_) (fun q hq => ?_) (fun q h1 h2 => ?_)
        · rw [dF_2, if_pos rfl]
          by_cases hj2 : j = od m
          · simp only [hj2, if_true]; exact ⟨trivial, by omega⟩
          · simp only [hj2, if_false]; exact hv1 j hj
        · have hne : od q ≠ od m := fun z => by have := hinj q m (by omega) (by omega) z; omega
          simp only [hne, if_false]
          exact hlo q (by omega)
        · by_cases hqm : q = m
          · subst hqm
            simp only [if_true]
            exact ⟨by rw [← hlo q (by omega)]; exact c2, trivial⟩
          · have hne : od q ≠ od m := fun z => by have := hinj q m (by omega) (by omega) z; omega
            simp only [hne, if_false]
            exact hhi q (by omega) h2
      · have e1 := hlo m (by omega)
        refine g_aload_n g dX1_next_27 rfl rfl ?_
        refine mo_get11 g k dX1_next_28 ?_
        refine g_iload_n g dX1_next_31 rfl rfl ?_
        refine g_dup2 g dX1_next_32 rfl rfl ?_
        refine mo_ld11 g k dX1_next_33 (rfl) (hod) ?_
        rw [(hv1 _ hod).1]
        refine g_iconst (v := 1) g dX1_next_34 (by decide) ?_
        refine g_isub g dX1_next_35 ?_
        refine g_top (v := nI (v1 (od m) - 1)) (by rw [show nI (v1 (od m)) = nI (v1 (od m) - 1 + 1) by rw [Nat.sub_add_cancel (by omega)]]; exact nI_pred _) ?_
        refine mo_st11 g k dX1_next_36 (rfl) (hod) ?_
        refine g_iconst (v := 1) g dX1_next_37 (by decide) ?_
        refine ret _ _ _ _ dX1_next_38 (Or.inr rfl) (⟨hf.f (by decide), Or.inl ⟨rfl, fun j => if j = od m then v1 (od m) - 1 else v1 j, fun j hj => ?_, fun q hq => ?_, ?_⟩⟩)
        · rw [dF_2, if_pos rfl]
          by_cases hj2 : j = od m
          · simp only [hj2, if_true]; exact ⟨trivial, by omega⟩
          · simp only [hj2, if_false]; exact hv1 j hj
        · have hq2 := hv q hq
          by_cases hqm : q = m
          · subst hqm; simp only [if_true]; omega
          · have hne : od q ≠ od m := fun z => hqm (hinj q m hq (by omega) z)
            simp only [hne, if_false]
            rcases Nat.lt_or_ge q m with z | z
            · rw [hlo q (by omega)]; exact hq2
            · rw [(hhi q (by omega) hq).2]; exact Nat.le_refl _
        · refine zrk_n (k := m) c0 (by omega) (fun q hq => ?_) ?_ (hv m (by omega)) (fun q h1 h2 => ?_)
          · have hne : od q ≠ od m := fun z => by have := hinj q m (by omega) (by omega) z; omega
            simp only [hne, if_false]
            exact hlo q (by omega)
          · simp only [if_true]; omega
          · have hne : od q ≠ od m := fun z => by have := hinj q m (by omega) (by omega) z; omega
            simp only [hne, if_false]
            exact hhi q (by omega) h2
  exact loop c0 (Nat.le_refl _) u v dFr.rf h11 (fun _ _ => rfl) (fun q h1 h2 => absurd h1 (by omega))
theorem mot_lost (l : Launch) {σ : zT} {u : dS} {v : Nat → Nat} (hu : zM σ u) (h11 : ∀ j, j < 6 → u.2 11 j = nI (v j)) (hv : ∀ j, j < 6 → σ.1 j = true → v j ≤ σ.2.1 4 j) : gMi moC l yX1_lost cX1_lost 3 (some .int) (gR 0 0) [] u (fun r u' => u' = u ∧ r = nI (zlost σ v)) := by
  refine gMi_of (by decide +kernel) (Nat.le_of_ble_eq_true rfl) cat0 ?_
  intro E a g k ret
  refine g_loc (lv' := [some (.ref (a 0)), none, none]) rfl ?_
  refine g_iconst (v := nI 0) g dX1_lost_0 (by decide) ?_
  refine g_istore_n g dX1_lost_1 rfl (Nat.le_of_ble_eq_true rfl) ?_
  refine g_iconst (v := nI 0) g dX1_lost_2 (by decide) ?_
  refine g_istore_n g dX1_lost_3 rfl (Nat.le_of_ble_eq_true rfl) ?_
  have loop : ∀ i, i ≤ 6 → gG E 4 [some (.ref (a 0)), some (.int (nI (zs (fun j => if σ.1 j = true then σ.2.1 5 j * (σ.2.1 4 j - v j) else 0) i))), some (.int (nI i))] [] u := by
    refine zdown 6 (fun i hi ih => ?_)
    refine g_iload_n g dX1_lost_4 rfl rfl ?_
    refine g_bipush (v := nI 6) g dX1_lost_5 (by decide) ?_
    refine g_cmpge (tgt := 52) g dX1_lost_7 (by decide) (nI_leI (by omega) (by omega)) (fun c => ?_) (fun c => ?_)
    · have : i = 6 := by omega
      subst this
      refine g_iload_n g dX1_lost_52 rfl rfl ?_
      exact ret _ _ _ _ dX1_lost_53 (⟨rfl, rfl⟩)
    have hi6 : i < 6 := by omega
    have nx := ih hi6
    have e0 : zs (fun j => if σ.1 j = true then σ.2.1 5 j * (σ.2.1 4 j - v j) else 0) (i + 1) = zs (fun j => if σ.1 j = true then σ.2.1 5 j * (σ.2.1 4 j - v j) else 0) i + (if σ.1 i = true then σ.2.1 5 i * (σ.2.1 4 i - v i) else 0) := rfl
    rw [e0] at nx
    refine g_iload_n g dX1_lost_10 rfl rfl ?_
    refine g_aload_n g dX1_lost_11 rfl rfl ?_
    refine mo_get0 g k dX1_lost_12 ?_
    refine g_iload_n g dX1_lost_15 rfl rfl ?_
    refine mo_ld0 g k dX1_lost_16 (rfl) (hi6) ?_
    rw [hu.2 i hi6]
    refine g_ifeq (tgt := 43) g dX1_lost_17 (by decide) (bI_0) (fun c2 => ?_) (fun c2 => ?_)
    · rw [c2] at nx
      refine g_iconst (v := 0) g dX1_lost_43 (by decide) ?_
      refine g_iadd g dX1_lost_44 ?_
      refine g_top (nI_add _ 0) ?_
      refine g_istore_n g dX1_lost_45 rfl (Nat.le_of_ble_eq_true rfl) ?_
      refine g_iinc g dX1_lost_46 rfl (n_inc _) ?_
      refine g_goto (tgt := 4) g dX1_lost_49 (by decide) ?_
      exact nx
    have hth := eq_true_of_ne_false c2
    rw [if_pos hth] at nx
    refine g_aload_n g dX1_lost_20 rfl rfl ?_
    refine mo_get5 g k dX1_lost_21 ?_
    refine g_iload_n g dX1_lost_24 rfl rfl ?_
    refine mo_ld5 g k dX1_lost_25 (rfl) (hi6) ?_
    rw [hu.1.1 5 (by omega) (by omega) i hi6]
    refine g_aload_n g dX1_lost_26 rfl rfl ?_
    refine mo_get4 g k dX1_lost_27 ?_
    refine g_iload_n g dX1_lost_30 rfl rfl ?_
    refine mo_ld4 g k dX1_lost_31 (rfl) (hi6) ?_
    rw [hu.1.1 4 (by omega) (by omega) i hi6]
    refine g_aload_n g dX1_lost_32 rfl rfl ?_
    refine mo_get11 g k dX1_lost_33 ?_
    refine g_iload_n g dX1_lost_36 rfl rfl ?_
    refine mo_ld11 g k dX1_lost_37 (rfl) (hi6) ?_
    rw [h11 i hi6]
    refine g_isub g dX1_lost_38 ?_
    refine g_imul g dX1_lost_39 ?_
    refine g_goto (tgt := 44) g dX1_lost_40 (by decide) ?_
    refine g_iadd g dX1_lost_44 ?_
    refine g_top (n_ldec _ _ (hv i hi6 hth) _ _) ?_
    refine g_istore_n g dX1_lost_45 rfl (Nat.le_of_ble_eq_true rfl) ?_
    refine g_iinc g dX1_lost_46 rfl (n_inc _) ?_
    refine g_goto (tgt := 4) g dX1_lost_49 (by decide) ?_
    exact nx
  exact loop 0 (by omega)
theorem mot_possible (l : Launch) {σ : zT} {u : dS} {v : Nat → Nat} (hs : zOk σ) (hu : zM σ u) (hR : zRm σ 0 u) (h11 : ∀ j, j < 6 → u.2 11 j = nI (v j) ∧ v j ≤ 6) : gMi moC l yX1_possible cX1_possible 2 (some .boolean) (gR 1 24) [] u (fun r u' => dFr [] [8] u u' ∧ ((r = 1 ∧ zhall (zed σ σ.2.2) (zw0 σ v)) ∨ (r = 0 ∧ ¬ zhall (zed σ σ.2.2) (zw0 σ v)))) := by
  refine gMz_of (by decide +kernel) (Nat.le_of_ble_eq_true rfl) cat0 ?_
  intro E a g k ret
  refine g_loc (lv' := [some (.ref (a 0)), none]) rfl ?_
  refine g_iconst (v := nI 0) g dX1_possible_0 (by decide) ?_
  refine g_istore_n g dX1_possible_1 rfl (Nat.le_of_ble_eq_true rfl) ?_
  have loop : ∀ i, i ≤ 6 → ∀ u2 : dS, dFr [] [8] u u2 → (∀ j, j < i → u2.2 8 j = nI (σ.2.1 3 j + v j)) → gG E 2 [some (.ref (a 0)), some (.int (nI i))] [] u2 := by
    refine zdown 6 (fun i hi ih u2 hf2 hw => ?_)
    have hu2 : zM σ u2 := hu.fr hf2 (by decide) (by decide)
    refine g_iload_n g dX1_possible_2 rfl rfl ?_
    refine g_bipush (v := nI 6) g dX1_possible_3 (by decide) ?_
    refine g_cmpge (tgt := 33) g dX1_possible_5 (by decide) (nI_leI (by omega) (by omega)) (fun c => ?_) (fun c => ?_)
    · have hR2 : zRm σ 0 u2 := fun S hS => by rw [hf2.2 7 (by decide)]; exact hR S hS
      have hz : zhall (zet σ 0) (zww σ (fun j => σ.2.1 3 j + v j)) ↔ zhall (zed σ σ.2.2) (zw0 σ v) := (zet_ed zww_th).trans zel_0
      refine g_aload_n g dX1_possible_33 rfl rfl ?_
      refine mo_call_can g k dX1_possible_34 (mot_can l hu2 hR2 (w := fun j => σ.2.1 3 j + v j) (fun j hj => ⟨hw j (by omega), by have := hs j hj; have := (h11 j hj).2; omega⟩)) (by decide) (Nat.le_of_ble_eq_true rfl) (fun r u3 ⟨hu3, hr⟩ => ?_)
      rw [hu3]
      rcases hr with ⟨rfl, h⟩ | ⟨rfl, h⟩
      · exact ret _ _ _ _ dX1_possible_37 (Or.inr rfl) (⟨hf2, Or.inl ⟨rfl, hz.mp h⟩⟩)
      · exact ret _ _ _ _ dX1_possible_37 (Or.inl rfl) (⟨hf2, Or.inr ⟨rfl, fun z => h (hz.mpr z)⟩⟩)
    have hi6 : i < 6 := by omega
    refine g_aload_n g dX1_possible_8 rfl rfl ?_
    refine mo_get8 g k dX1_possible_9 ?_
    refine g_iload_n g dX1_possible_12 rfl rfl ?_
    refine g_aload_n g dX1_possible_13 rfl rfl ?_
    refine mo_get3 g k dX1_possible_14 ?_
    refine g_iload_n g dX1_possible_17 rfl rfl ?_
    refine mo_ld3 g k dX1_possible_18 (rfl) (hi6) ?_
    rw [hu2.1.1 3 (by omega) (by omega) i hi6]
    refine g_aload_n g dX1_possible_19 rfl rfl ?_
    refine mo_get11 g k dX1_possible_20 ?_
    refine g_iload_n g dX1_possible_23 rfl rfl ?_
    refine mo_ld11 g k dX1_possible_24 (rfl) (hi6) ?_
    rw [hf2.2 11 (by decide), (h11 i hi6).1]
    refine g_iadd g dX1_possible_25 ?_
    rw [nI_add]
    refine mo_st8 g k dX1_possible_26 (rfl) (hi6) ?_
    refine g_iinc g dX1_possible_27 rfl (n_inc _) ?_
    refine g_goto (tgt := 2) g dX1_possible_30 (by decide) ?_
    refine ih hi6 _ (hf2.f (by decide)) (fun j hj => ?_)
    rw [dF_2, if_pos rfl]
    by_cases hji : j = i
    · simp [hji]
    · simp only [hji, if_false]; exact hw j (by omega)
  exact loop 0 (by omega) u dFr.rf (fun j hj => absurd hj (by omega))
theorem mot_keepBest (l : Launch) (u : dS) : gMv moC l yX1_keepBest cX1_keepBest 2 (gR 0 0) [] u (fun u' => dFr [] [12] u u' ∧ ∀ j, j < 6 → u'.2 12 j = u.2 11 j) := by
  refine gMv_of (by decide +kernel) (Nat.le_of_ble_eq_true rfl) cat0 ?_
  intro E a g k ret
  refine g_loc (lv' := [some (.ref (a 0)), none]) rfl ?_
  refine g_iconst (v := nI 0) g dX1_keepBest_0 (by decide) ?_
  refine g_istore_n g dX1_keepBest_1 rfl (Nat.le_of_ble_eq_true rfl) ?_
  have loop : ∀ i, i ≤ 6 → ∀ u2 : dS, dFr [] [12] u u2 → (∀ j, j < i → u2.2 12 j = u.2 11 j) → gG E 2 [some (.ref (a 0)), some (.int (nI i))] [] u2 := by
    refine zdown 6 (fun i hi ih u2 hf2 hw => ?_)
    refine g_iload_n g dX1_keepBest_2 rfl rfl ?_
    refine g_bipush (v := nI 6) g dX1_keepBest_3 (by decide) ?_
    refine g_cmpge (tgt := 26) g dX1_keepBest_5 (by decide) (nI_leI (by omega) (by omega)) (fun c => ?_) (fun c => ?_)
    · exact ret _ _ _ dX1_keepBest_26 (⟨hf2, fun j hj => hw j (by omega)⟩)
    have hi6 : i < 6 := by omega
    refine g_aload_n g dX1_keepBest_8 rfl rfl ?_
    refine mo_get12 g k dX1_keepBest_9 ?_
    refine g_iload_n g dX1_keepBest_12 rfl rfl ?_
    refine g_aload_n g dX1_keepBest_13 rfl rfl ?_
    refine mo_get11 g k dX1_keepBest_14 ?_
    refine g_iload_n g dX1_keepBest_17 rfl rfl ?_
    refine mo_ld11 g k dX1_keepBest_18 (rfl) (hi6) ?_
    rw [hf2.2 11 (by decide)]
    refine mo_st12 g k dX1_keepBest_19 (rfl) (hi6) ?_
    refine g_iinc g dX1_keepBest_20 rfl (n_inc _) ?_
    refine g_goto (tgt := 2) g dX1_keepBest_23 (by decide) ?_
    refine ih hi6 _ (hf2.f (by decide)) (fun j hj => ?_)
    rw [dF_2, if_pos rfl]
    by_cases hji : j = i
    · simp [hji]
    · simp only [hji, if_false]; exact hw j (by omega)
  exact loop 0 (by omega) u dFr.rf (fun j hj => absurd hj (by omega))
end
section
/-! Model: tryAll, loss, kept; the greedy numbers are one -/
theorem zin_cg {od od' : Nat → Nat} {k i : Nat} (h : ∀ q, q < k → od q = od' q) : zin od k i = zin od' k i := by
  cases hz : zin od' k i with
  | true =>
    obtain ⟨q, a, b⟩ := zin_iff.mp hz
    exact zin_iff.mpr ⟨q, a, by rw [h q a]; exact b⟩
  | false =>
    cases hy : zin od k i with
    | false => rfl
    | true =>
      obtain ⟨q, a, b⟩ := zin_iff.mp hy
      have : zin od' k i = true := zin_iff.mpr ⟨q, a, by rw [← h q a]; exact b⟩
      rw [this] at hz; cases hz
theorem zOrd_pl {σ : zT} {od : Nat → Nat} {c : Nat} (h : zOrd σ od c) : c = zcnt σ ∧ ∀ q, q < c → zpl σ (od q) = q := by
  have hl : ∀ q, q < c → od q < 6 := fun q hq => (h.2.1 q hq).1
  have e1 : ∀ f : Nat → Nat, zs (fun j => if σ.1 j = true then f j else 0) 6 = zs (fun q => f (od q)) c := fun f => by
    rw [zs_od hl h.inj f c (Nat.le_refl _)]
    exact zs_congr (fun j hj => by rw [h.in hj])
  have cnt : ∀ (n x : Nat), x ≤ n → zs (fun q => if q < x then 1 else 0) n = x := by
    intro n
    induction n with
    | zero => intro x hx; simp [zs]; omega
    | succ n ih =>
      intro x hx
      simp only [zs]
      by_cases hxn : x = n + 1
      · subst hxn
        have : zs (fun q => if q < n + 1 then 1 else 0) n = zs (fun q => if q < n then 1 else 0) n := zs_congr (fun q hq => by rw [if_pos (by omega), if_pos hq])
        rw [this, ih n (Nat.le_refl _), if_pos (by omega)]
      · rw [ih x (by omega), if_neg (by omega)]; omega
  refine ⟨?_, fun q hq => ?_⟩
  · have := e1 (fun _ => 1)
    unfold zcnt
    rw [this]
    have h2 := cnt c c (Nat.le_refl _)
    rw [← h2]
    have h3 : zs (fun q => if q < c then 1 else 0) c = zs (fun _ => 1) c := zs_congr (fun q hq => if_pos hq)
    rw [h3]
    have h4 : ∀ n, zs (fun _ => 1) n = n := by
      intro n
      induction n with
      | zero => rfl
      | succ n ih => simp only [zs]; omega
    rw [h4, h4]
  · unfold zpl
    have e2 : zs (fun i => if (σ.1 i && zbb σ i (od q)) = true then 1 else 0) 6 = zs (fun j => if σ.1 j = true then (if zbb σ j (od q) = true then 1 else 0) else 0) 6 := zs_congr (fun j _ => by cases σ.1 j <;> simp)
    rw [e2, e1 (fun j => if zbb σ j (od q) = true then 1 else 0)]
    refine Eq.trans (zs_congr (g := fun x => if x < q then 1 else 0) (fun x hx => ?_)) (cnt c q (by omega))
    show (if zbb σ (od x) (od q) = true then 1 else 0) = (if x < q then 1 else 0)
    by_cases hxq : x < q
    · rw [if_pos hxq, if_pos (zbb_iff.mpr (h.2.2.2 x q hxq hq))]
    · rw [if_neg hxq, if_neg]
      intro z
      have z1 := zbb_iff.mp z
      rcases Nat.lt_or_ge q x with y | y
      · have := h.2.2.2 q x y hx
        unfold zbf at this z1
        omega
      · have : x = q := by omega
        subst this
        unfold zbf at z1
        omega
theorem zOrd_u {σ : zT} {od od' : Nat → Nat} {c c' : Nat} (h : zOrd σ od c) (h' : zOrd σ od' c') : c = c' ∧ ∀ q, q < c → od q = od' q := by
  obtain ⟨a1, a2⟩ := zOrd_pl h
  obtain ⟨b1, b2⟩ := zOrd_pl h'
  refine ⟨by omega, fun q hq => ?_⟩
  have hq' : q < c' := by omega
  exact zpl_inj (h.2.1 q hq).1 (h'.2.1 q hq').1 (h.2.1 q hq).2 (h'.2.1 q hq').2 (by rw [a2 q hq, b2 q hq'])
theorem zGr_cg {e : Nat → Nat → Bool} {w0 ma od od' K : Nat → Nat} {c : Nat} (h : ∀ q, q < c → od q = od' q) (hG : zGr e w0 ma od' c K) : zGr e w0 ma od c K := by
  have hp : ∀ k, k ≤ c → ∀ i, zpv w0 od K k i = zpv w0 od' K k i := fun k hk i => by
    unfold zpv
    rw [zin_cg (fun q hq => h q (by omega))]
  refine ⟨(zhall_cg (fun i _ => hp c (Nat.le_refl _) i)).mpr hG.1, fun k hk => ?_⟩
  rw [h k hk]
  refine ⟨(hG.2 k hk).1, fun h1 h2 => (hG.2 k hk).2 h1 ((zhall_cg (fun i _ => ?_)).mp h2)⟩
  unfold zadd
  rw [hp (k + 1) (by omega) i]
theorem zGr_u {e : Nat → Nat → Bool} {σ : zT} {w0 od od' K K' : Nat → Nat} {c c' : Nat} (h : zOrd σ od c) (h' : zOrd σ od' c') (hG : zGr e w0 (σ.2.1 4) od c K) (hG' : zGr e w0 (σ.2.1 4) od' c' K') : ∀ j, j < 6 → σ.1 j = true → K j = K' j := by
  obtain ⟨rfl, hq⟩ := zOrd_u h h'
  have hG2 := zGr_cg hq hG'
  have key : ∀ k, k ≤ c → ∀ q, q < k → K (od q) = K' (od q) := by
    intro k
    induction k with
    | zero => intro _ q hq; omega
    | succ k ih =>
      intro hk q hq
      by_cases hqk : q = k
      · subst hqk
        have a := zGr_lex hG (fun q hq => (hG2.2 q hq).1) hG2.1 (show q < c by omega) (fun x hx => (ih (by omega) x hx).symm)
        have b := zGr_lex hG2 (fun q hq => (hG.2 q hq).1) hG.1 (show q < c by omega) (fun x hx => ih (by omega) x hx)
        omega
      · exact ih (by omega) q (by omega)
  intro j hj hth
  obtain ⟨q, a, b⟩ := h.2.2.1 j hj hth
  rw [← b]
  exact key c (Nat.le_refl _) q a
theorem zlost_cg {σ : zT} {K K' : Nat → Nat} (h : ∀ j, j < 6 → σ.1 j = true → K j = K' j) : zlost σ K = zlost σ K' := zs_congr (fun j hj => by
  by_cases hth : σ.1 j = true
  · rw [if_pos hth, if_pos hth, h j hj hth]
  · rw [if_neg hth, if_neg hth])
theorem zlost_b {σ : zT} (hs : zOk σ) (K : Nat → Nat) : zlost σ K ≤ 324 := by
  have : zlost σ K ≤ 6 * 54 := zs_bound (fun j hj => by
    have := hs j hj
    split
    · exact Nat.le_trans (Nat.mul_le_mul (show σ.2.1 5 j ≤ 9 by omega) (show σ.2.1 4 j - K j ≤ 6 by omega)) (by omega)
    · omega)
  omega
theorem zpv_w0 {σ : zT} {od v : Nat → Nat} {c : Nat} (h : zOrd σ od c) {i : Nat} (hi : i < 6) : zpv (zmu σ) od v c i = zw0 σ v i := by
  unfold zpv zw0 zmu
  rw [h.in hi]
  cases σ.1 i <;> simp
/-- what tryAll leaves -/
def zTA (σ : zT) (r : Int32) (u : dS) : Prop := ∃ (od : Nat → Nat) (c : Nat) (K : Nat → Nat), zOrd σ od c ∧ zGr (zed σ σ.2.2) (zmu σ) (σ.2.1 4) od c K ∧ r = nI (zlost σ K) ∧ ∀ j, j < 6 → σ.1 j = true → u.2 12 j = nI (K j)
set_option maxHeartbeats 2000000 in
theorem mot_tryAll (l : Launch) {σ : zT} {u : dS} (hs : zOk σ) (hu : zM σ u) (hfit : zfit σ) : gMi moC l yX1_tryAll cX1_tryAll 5 (some .int) (gR 2 47) [] u (fun r u' => dFr [9] [7, 8, 10, 11, 12] u u' ∧ zTA σ r u') := by
  refine gMi_of (by decide +kernel) (Nat.le_of_ble_eq_true rfl) cat0 ?_
  intro E a g k ret
  refine g_loc (lv' := [some (.ref (a 0)), none, none, none, none]) rfl ?_
  refine g_aload_n g dX1_tryAll_0 rfl rfl ?_
  refine mo_call_sort g k dX1_tryAll_1 (mot_sort l hs hu) (by decide) (Nat.le_of_ble_eq_true rfl) (fun u1 ⟨hf1, od, hO, h9, h10⟩ => ?_)
  have hu1 : zM σ u1 := hu.fr hf1 (by decide) (by decide)
  refine g_aload_n g dX1_tryAll_4 rfl rfl ?_
  refine g_iconst (v := nI 0) g dX1_tryAll_5 (by decide) ?_
  refine mo_call_measure g k dX1_tryAll_6 (mot_measure l hs hu1 (T := 0) (by omega)) (by decide) (Nat.le_of_ble_eq_true rfl) (fun u2 ⟨hf2, hR⟩ => ?_)
  refine g_iconst (v := nI 0) g dX1_tryAll_9 (by decide) ?_
  refine g_istore_n g dX1_tryAll_10 rfl (Nat.le_of_ble_eq_true rfl) ?_
  have hF2 : dFr [9] [7, 8, 10, 11, 12] u u2 := (hf1.up (by decide) (by decide)).tr (hf2.up (by decide) (by decide))
  have hu2 : zM σ u2 := hu.fr hF2 (by decide) (by decide)
  have h92 : u2.1 9 = nI (zcnt σ) := (hf2.1 9 (by decide)).trans h9
  have h102 : ∀ q, q < zcnt σ → u2.2 10 q = nI (od q) := fun q hq => by rw [hf2.2 10 (by decide)]; exact h10 q hq
  obtain ⟨K, hG⟩ := zGr_ex (e := zed σ σ.2.2) (w0 := zmu σ) (ma := σ.2.1 4) hO.inj hfit
  generalize zcnt σ = c0 at hO h92 h102 hG
  have hc6 := hO.1
  have hma : ∀ q, q < c0 → σ.2.1 4 (od q) ≤ 6 := fun q hq => by have := hs (od q) (hO.2.1 q hq).1; omega
  have hpow : 7 ^ c0 ≤ 117649 := Nat.le_trans (Nat.pow_le_pow_right (by omega) hc6) (by decide)
  have hK : ∀ q, q < c0 → K (od q) ≤ σ.2.1 4 (od q) := fun q hq => (hG.2 q hq).1
  have hlK := zlost_b hs K
  -- the loop over all numbers
  have loop : ∀ n, n ≤ 117649 → ∀ (u3 : dS) (ls mr : Int32), dFr [] [8, 11, 12] u2 u3 → ((mr = nI 1 ∧ ∃ v : Nat → Nat, (∀ j, j < 6 → u3.2 11 j = nI (v j) ∧ v j ≤ 6) ∧ (∀ q, q < c0 → v (od q) ≤ σ.2.1 4 (od q)) ∧ zrk (σ.2.1 4) od v c0 = n ∧ ((n ≤ zrk (σ.2.1 4) od K c0 ∧ ls = nI 100000) ∨ (zrk (σ.2.1 4) od K c0 < n ∧ ls = nI (zlost σ K) ∧ ∀ j, j < 6 → σ.1 j = true → u3.2 12 j = nI (K j)))) ∨ (mr = nI 0 ∧ ls = nI (zlost σ K) ∧ ∀ j, j < 6 → σ.1 j = true → u3.2 12 j = nI (K j))) → gG E 42 [some (.ref (a 0)), some (.int ls), some (.int mr), some (.int (nI n)), none] [] u3 := by
    refine zdown 117649 (fun n hn ih u3 ls mr hf3 hI => ?_)
    have hF3 : dFr [9] [7, 8, 10, 11, 12] u u3 := hF2.tr (hf3.up (by decide) (by decide))
    have hu3 : zM σ u3 := hu.fr hF3 (by decide) (by decide)
    have hR3 : zRm σ 0 u3 := fun S hS => by rw [hf3.2 7 (by decide)]; exact hR S hS
    rcases hI with ⟨rfl, v, hv, hvm, hrk, hA⟩ | ⟨rfl, rfl, hbest⟩
    rotate_left
    · refine g_iload_n g dX1_tryAll_42 rfl rfl ?_
      refine g_ldc g ((show Cond.constant RX1 84 (nI 117649) ∈ lw_all from q338)) dX1_tryAll_43 ?_
      refine g_cmpge (tgt := 89) g dX1_tryAll_45 (by decide) (nI_leI (by omega) (by omega)) (fun c1 => ?_) (fun c1 => ?_)
      · refine g_iload_n g dX1_tryAll_89 rfl rfl ?_
        exact ret _ _ _ _ dX1_tryAll_90 (⟨hF3, od, c0, K, hO, hG, rfl, hbest⟩)
      refine g_iload_n g dX1_tryAll_48 rfl rfl ?_
      refine g_ifeq (tgt := 89) g dX1_tryAll_49 (by decide) (Iff.rfl) (fun c2 => ?_) (fun c2 => ?_)
      · refine g_iload_n g dX1_tryAll_89 rfl rfl ?_
        exact ret _ _ _ _ dX1_tryAll_90 (⟨hF3, od, c0, K, hO, hG, rfl, hbest⟩)
      · exact absurd rfl c2
    have hrb := zrk_b (v := v) c0 hma
    refine g_iload_n g dX1_tryAll_42 rfl rfl ?_
    refine g_ldc g ((show Cond.constant RX1 84 (nI 117649) ∈ lw_all from q338)) dX1_tryAll_43 ?_
    refine g_cmpge (tgt := 89) g dX1_tryAll_45 (by decide) (nI_leI (by omega) (by omega)) (fun c1 => ?_) (fun c1 => ?_)
    · omega
    refine g_iload_n g dX1_tryAll_48 rfl rfl ?_
    refine g_ifeq (tgt := 89) g dX1_tryAll_49 (by decide) (Iff.rfl) (fun c2 => ?_) (fun c2 => ?_)
    · exact absurd c2 (by decide)
    have hvth : ∀ j, j < 6 → σ.1 j = true → v j ≤ σ.2.1 4 j := fun j hj hth => by
      obtain ⟨q, q1, q2⟩ := hO.2.2.1 j hj hth
      rw [← q2]; exact hvm q q1
    refine g_aload_n g dX1_tryAll_52 rfl rfl ?_
    refine mo_call_lost g k dX1_tryAll_53 (mot_lost l hu3 (fun j hj => (hv j hj).1) hvth) (by decide) (Nat.le_of_ble_eq_true rfl) (fun r u4 ⟨hu4, hr⟩ => ?_)
    refine g_istore g dX1_tryAll_56 (Nat.le_of_ble_eq_true rfl) ?_
    subst hr
    rw [hu4]
    have hlv := zlost_b hs v
    have hpz : zhall (zed σ σ.2.2) (zpv (zmu σ) od v c0) ↔ zhall (zed σ σ.2.2) (zw0 σ v) := zhall_cg (fun i hi => zpv_w0 hO hi)
    -- behind the check
    have nx : ∀ (u5 : dS) (ls : Int32), dFr [] [8, 12] u3 u5 → ((n + 1 ≤ zrk (σ.2.1 4) od K c0 ∧ ls = nI 100000) ∨ (zrk (σ.2.1 4) od K c0 < n + 1 ∧ ls = nI (zlost σ K) ∧ ∀ j, j < 6 → σ.1 j = true → u5.2 12 j = nI (K j))) → gG E 78 [some (.ref (a 0)), some (.int ls), some (.int (nI 1)), some (.int (nI n)), some (.int (nI (zlost σ v)))] [] u5 := by
      intro u5 ls hf5 hA5
      have hF5 : dFr [9] [7, 8, 10, 11, 12] u u5 := hF3.tr (hf5.up (by decide) (by decide))
      have hu5 : zM σ u5 := hu.fr hF5 (by decide) (by decide)
      have hf35 : dFr [] [8, 11, 12] u2 u5 := hf3.tr (hf5.up (by decide) (by decide))
      refine g_aload_n g dX1_tryAll_78 rfl rfl ?_
      refine mo_call_next g k dX1_tryAll_79 (mot_next l hs hu5 hO ((hf35.1 9 (by decide)).trans h92) (fun q hq => by rw [hf35.2 10 (by decide)]; exact h102 q hq) (fun j hj => by rw [hf5.2 11 (by decide)]; exact hv j hj) hvm) (by decide) (Nat.le_of_ble_eq_true rfl) (fun r u6 ⟨hf6, hr⟩ => ?_)
      have e12 : u6.2 12 = u5.2 12 := hf6.2 12 (by decide)
      have hf36 : dFr [] [8, 11, 12] u2 u6 := hf35.tr (hf6.up (by decide) (by decide))
      rcases hr with ⟨rfl, v', v1, v2, v3⟩ | ⟨rfl, hz⟩
      · refine g_istore_n g dX1_tryAll_82 rfl (Nat.le_of_ble_eq_true rfl) ?_
        refine g_iinc g dX1_tryAll_83 rfl (n_inc _) ?_
        refine g_goto (tgt := 42) g dX1_tryAll_86 (by decide) ?_
        refine g_forget 4 ?_
        refine ih (by omega) u6 ls _ hf36 (Or.inl ⟨rfl, v', v1, v2, by rw [v3, hrk], ?_⟩)
        rw [e12]
        exact hA5
      · refine g_istore_n g dX1_tryAll_82 rfl (Nat.le_of_ble_eq_true rfl) ?_
        refine g_iinc g dX1_tryAll_83 rfl (n_inc _) ?_
        refine g_goto (tgt := 42) g dX1_tryAll_86 (by decide) ?_
        refine g_forget 4 ?_
        refine ih (by omega) u6 ls _ hf36 (Or.inr ?_)
        rw [e12]
        have hle := zrk_0 (ma := σ.2.1 4) (K := K) c0 hz
        rcases hA5 with ⟨z, -⟩ | ⟨-, z1, z2⟩
        · omega
        · exact ⟨rfl, z1, z2⟩
    rcases hA with ⟨hA, rfl⟩ | ⟨hA, rfl, hbest⟩
    · refine g_iload g dX1_tryAll_58 rfl ?_
      refine g_iload_n g dX1_tryAll_60 rfl rfl ?_
      refine g_cmpge (tgt := 78) g dX1_tryAll_61 (by decide) (nI_leI (by omega) (by omega)) (fun c3 => ?_) (fun c3 => ?_)
      · omega
      refine g_aload_n g dX1_tryAll_64 rfl rfl ?_
      refine mo_call_possible g k dX1_tryAll_65 (mot_possible l hs hu3 hR3 hv) (by decide) (Nat.le_of_ble_eq_true rfl) (fun r u5 ⟨hf5, hr⟩ => ?_)
      rcases hr with ⟨rfl, h⟩ | ⟨rfl, h⟩
      · refine g_ifeq (tgt := 78) g dX1_tryAll_68 (by decide) (Iff.rfl) (fun c4 => ?_) (fun c4 => ?_)
        · exact absurd c4 (by decide)
        have hreq : zrk (σ.2.1 4) od v c0 = zrk (σ.2.1 4) od K c0 := by
          rcases Nat.lt_or_ge n (zrk (σ.2.1 4) od K c0) with z | z
          · obtain ⟨k1, k2, k3, k4⟩ := zrk_lt c0 hvm hK (by omega)
            have := zGr_lex hG hvm (hpz.mpr h) k2 k3
            omega
          · omega
        have hvK : ∀ j, j < 6 → σ.1 j = true → v j = K j := fun j hj hth => by
          obtain ⟨q, q1, q2⟩ := hO.2.2.1 j hj hth
          rw [← q2]
          exact zrk_eq c0 hvm hK hreq q q1
        refine g_iload g dX1_tryAll_71 rfl ?_
        refine g_istore_n g dX1_tryAll_73 rfl (Nat.le_of_ble_eq_true rfl) ?_
        refine g_aload_n g dX1_tryAll_74 rfl rfl ?_
        refine mo_call_keepBest g k dX1_tryAll_75 (mot_keepBest l u5) (by decide) (Nat.le_of_ble_eq_true rfl) (fun u6 ⟨hf6, h12⟩ => ?_)
        refine nx u6 _ ((hf5.up (by decide) (by decide)).tr (hf6.up (by decide) (by decide))) (Or.inr ⟨by omega, by rw [zlost_cg hvK], fun j hj hth => ?_⟩)
        rw [h12 j hj, hf5.2 11 (by decide), (hv j hj).1, hvK j hj hth]
      · refine g_ifeq (tgt := 78) g dX1_tryAll_68 (by decide) (Iff.rfl) (fun c4 => ?_) (fun c4 => ?_)
        rotate_left
        · exact absurd rfl c4
        refine nx u5 _ (hf5.up (by decide) (by decide)) (Or.inl ⟨?_, rfl⟩)
        rcases Nat.lt_or_ge n (zrk (σ.2.1 4) od K c0) with z | z
        · exact z
        · have hreq : zrk (σ.2.1 4) od v c0 = zrk (σ.2.1 4) od K c0 := by omega
          have e1 : ∀ i, i < 6 → zpv (zmu σ) od K c0 i = zpv (zmu σ) od v c0 i := fun i hi => by
            unfold zpv
            by_cases hz : zin od c0 i = true
            · rw [if_pos hz, if_pos hz]
              obtain ⟨q, q1, q2⟩ := zin_iff.mp hz
              rw [← q2, zrk_eq c0 hvm hK hreq q q1]
            · rw [if_neg hz, if_neg hz]
          exact absurd (hpz.mp ((zhall_cg e1).mp hG.1)) h
    · refine g_iload g dX1_tryAll_58 rfl ?_
      refine g_iload_n g dX1_tryAll_60 rfl rfl ?_
      refine g_cmpge (tgt := 78) g dX1_tryAll_61 (by decide) (nI_leI (by omega) (by omega)) (fun c3 => ?_) (fun c3 => ?_)
      · exact nx u3 _ dFr.rf (Or.inr ⟨by omega, rfl, hbest⟩)
      refine g_aload_n g dX1_tryAll_64 rfl rfl ?_
      refine mo_call_possible g k dX1_tryAll_65 (mot_possible l hs hu3 hR3 hv) (by decide) (Nat.le_of_ble_eq_true rfl) (fun r u5 ⟨hf5, hr⟩ => ?_)
      rcases hr with ⟨rfl, h⟩ | ⟨rfl, h⟩
      · have := zGr_best hO hG hvm (hpz.mpr h)
        omega
      · refine g_ifeq (tgt := 78) g dX1_tryAll_68 (by decide) (Iff.rfl) (fun c4 => ?_) (fun c4 => ?_)
        rotate_left
        · exact absurd rfl c4
        exact nx u5 _ (hf5.up (by decide) (by decide)) (Or.inr ⟨by omega, rfl, fun j hj hth => by rw [hf5.2 12 (by decide)]; exact hbest j hj hth⟩)
  have start : ∀ i, i ≤ 6 → ∀ u3 : dS, dFr [] [11] u2 u3 → (∀ j, j < i → u3.2 11 j = nI (σ.2.1 4 j)) → gG E 11 [some (.ref (a 0)), some (.int (nI i)), none, none, none] [] u3 := by
    refine zdown 6 (fun i hi ih u3 hf3 hw => ?_)
    have hu3 : zM σ u3 := hu2.fr hf3 (by decide) (by decide)
    refine g_iload_n g dX1_tryAll_11 rfl rfl ?_
    refine g_bipush (v := nI 6) g dX1_tryAll_12 (by decide) ?_
    refine g_cmpge (tgt := 35) g dX1_tryAll_14 (by decide) (nI_leI (by omega) (by omega)) (fun c => ?_) (fun c => ?_)
    · refine g_ldc g ((show Cond.constant RX1 83 (nI 100000) ∈ lw_all from q337)) dX1_tryAll_35 ?_
      refine g_istore_n g dX1_tryAll_37 rfl (Nat.le_of_ble_eq_true rfl) ?_
      refine g_iconst (v := nI 1) g dX1_tryAll_38 (by decide) ?_
      refine g_istore_n g dX1_tryAll_39 rfl (Nat.le_of_ble_eq_true rfl) ?_
      refine g_iconst (v := nI 0) g dX1_tryAll_40 (by decide) ?_
      refine g_istore_n g dX1_tryAll_41 rfl (Nat.le_of_ble_eq_true rfl) ?_
      refine loop 0 (by omega) u3 _ _ (hf3.up (by decide) (by decide)) (Or.inl ⟨rfl, σ.2.1 4, fun j hj => ⟨hw j (by omega), by have := hs j hj; omega⟩, fun _ _ => Nat.le_refl _, zrk_m c0 (fun _ _ => rfl), Or.inl ⟨Nat.zero_le _, rfl⟩⟩)
    have hi6 : i < 6 := by omega
    refine g_aload_n g dX1_tryAll_17 rfl rfl ?_
    refine mo_get11 g k dX1_tryAll_18 ?_
    refine g_iload_n g dX1_tryAll_21 rfl rfl ?_
    refine g_aload_n g dX1_tryAll_22 rfl rfl ?_
    refine mo_get4 g k dX1_tryAll_23 ?_
    refine g_iload_n g dX1_tryAll_26 rfl rfl ?_
    refine mo_ld4 g k dX1_tryAll_27 (rfl) (hi6) ?_
    rw [hu3.1.1 4 (by omega) (by omega) i hi6]
    refine mo_st11 g k dX1_tryAll_28 (rfl) (hi6) ?_
    refine g_iinc g dX1_tryAll_29 rfl (n_inc _) ?_
    refine g_goto (tgt := 11) g dX1_tryAll_32 (by decide) ?_
    refine ih hi6 _ (hf3.f (by decide)) (fun j hj => ?_)
    rw [dF_2, if_pos rfl]
    by_cases hji : j = i
    · simp [hji]
    · simp only [hji, if_false]; exact hw j (by omega)
  exact start 0 (by omega) u2 dFr.rf (fun j hj => absurd hj (by omega))
theorem mot_loss (l : Launch) {σ : zT} {u : dS} (hs : zOk σ) (hu : zM σ u) (hfit : zfit σ) : gMi moC l yX1_loss cX1_loss 1 (some .int) (gR 3 71) [] u (fun r u' => zM σ u' ∧ zTA σ r u') := by
  refine gMi_of (by decide +kernel) (Nat.le_of_ble_eq_true rfl) cat0 ?_
  intro E a g k ret
  refine g_loc (lv' := [some (.ref (a 0))]) rfl ?_
  refine g_aload_n g dX1_loss_0 rfl rfl ?_
  refine mo_call_tryAll g k dX1_loss_1 (mot_tryAll l hs hu hfit) (by decide) (Nat.le_of_ble_eq_true rfl) (fun r u1 ⟨hf, h⟩ => ?_)
  exact ret _ _ _ _ dX1_loss_4 (⟨hu.fr hf (by decide) (by decide), h⟩)
theorem mot_kept (l : Launch) {σ : zT} {u : dS} (hs : zOk σ) (hu : zM σ u) (hfit : zfit σ) (x : Int32) : gMi moC l yX1_kept cX1_kept 2 (some .int) (gR 3 71) [.int x] u (fun r u' => zM σ u' ∧ (zh σ.1 x = false → r = -1) ∧ ∀ j, j < 6 → x = nI j → σ.1 j = true → ∃ q, zTA σ q u' ∧ r = u'.2 12 j) := by
  refine gMi_of (by decide +kernel) (Nat.le_of_ble_eq_true rfl) cat1 ?_
  intro E a g k ret
  refine g_loc (lv' := [some (.ref (a 0)), some (.int x)]) rfl ?_
  refine g_aload_n g dX1_kept_0 rfl rfl ?_
  refine mo_call_tryAll g k dX1_kept_1 (mot_tryAll l hs hu hfit) (by decide) (Nat.le_of_ble_eq_true rfl) (fun r u1 ⟨hf, h⟩ => ?_)
  refine g_pop g dX1_kept_4 rfl ?_
  have hu1 : zM σ u1 := hu.fr hf (by decide) (by decide)
  refine g_aload_n g dX1_kept_5 rfl rfl ?_
  refine g_iload_n g dX1_kept_6 rfl rfl ?_
  refine mo_call_is g k dX1_kept_7 (mot_is l hu1 x) (by decide) (Nat.le_of_ble_eq_true rfl) (fun r2 u2 ⟨hu2, hr⟩ => ?_)
  subst hr
  rw [hu2]
  refine g_ifeq (tgt := 22) g dX1_kept_10 (by decide) (bI_0) (fun c => ?_) (fun c => ?_)
  · refine g_iconst (v := (-1)) g dX1_kept_22 (by decide) ?_
    exact ret _ _ _ _ dX1_kept_23 (⟨hu1, fun _ => rfl, fun j hj hx hth => by rw [hx, zh_in hj, hth] at c; cases c⟩)
  obtain ⟨j, hj, rfl⟩ : ∃ j, j < 6 ∧ x = nI j := by
    rcases n_in x 6 (by decide) with h | h
    · exact absurd (zh_out h) c
    · exact h
  refine g_aload_n g dX1_kept_13 rfl rfl ?_
  refine mo_get12 g k dX1_kept_14 ?_
  refine g_iload_n g dX1_kept_17 rfl rfl ?_
  refine mo_ld12 g k dX1_kept_18 (rfl) (hj) ?_
  refine g_goto (tgt := 23) g dX1_kept_19 (by decide) ?_
  exact ret _ _ _ _ dX1_kept_23 (⟨hu1, fun z => absurd z c, fun i hi hij hth => ⟨_, h, by rw [(nI_eq (show j < 2 ^ 31 by omega) (show i < 2 ^ 31 by omega)).mp hij]⟩⟩)
end
section
/-! Model: give, at, greatestMust, lossWithout, freeable, idle -/
theorem zcov_1 {e : Nat → Nat → Bool} {j t : Nat} (hj : j < 6) : zcov e (fun i => bt ((1 : Int32) <<< (nI j &&& 31)) i) t = e j t := by
  cases h : e j t with
  | true => exact zcov_iff.mpr ⟨j, hj, by rw [b_one j (by omega) j (by omega)]; simp, h⟩
  | false =>
    cases hz : zcov e (fun i => bt ((1 : Int32) <<< (nI j &&& 31)) i) t with
    | false => rfl
    | true =>
      obtain ⟨i, a, b, d⟩ := zcov_iff.mp hz
      rw [b_one j (by omega) i (by omega)] at b
      have := of_decide_eq_true b
      subst this
      rw [h] at d; cases d
set_option maxHeartbeats 1000000 in
theorem mot_give (l : Launch) {σ : zT} {u : dS} {w : Nat → Nat} {t : Nat} (hs : zOk σ) (hu : zM σ u) (ht : t < 24) (hw : ∀ j, j < 6 → u.2 8 j = nI (w j) ∧ w j < 128) (hth : ∀ j, j < 6 → 0 < w j → σ.1 j = true) : gMi moC l yX1_give cX1_give 3 (some .int) (gR 2 47) [.int (nI t)] u (fun r u' => dFr [] [7, 8] u u' ∧ ∃ (p : Nat) (w' : Nat → Nat), zst σ w t p w' ∧ r = zen p ∧ ∀ j, j < 6 → u'.2 8 j = nI (w' j)) := by
  refine gMi_of (by decide +kernel) (Nat.le_of_ble_eq_true rfl) cat1 ?_
  intro E a g k ret
  refine g_loc (lv' := [some (.ref (a 0)), some (.int (nI t)), none]) rfl ?_
  refine g_aload_n g dX1_give_0 rfl rfl ?_
  refine g_iload_n g dX1_give_1 rfl rfl ?_
  refine g_iconst (v := 1) g dX1_give_2 (by decide) ?_
  refine g_iadd g dX1_give_3 ?_
  rw [nI_1]
  refine mo_call_measure g k dX1_give_4 (mot_measure l hs hu (T := t + 1) (by omega)) (by decide) (Nat.le_of_ble_eq_true rfl) (fun u1 ⟨hf1, hR⟩ => ?_)
  refine g_iconst (v := nI 0) g dX1_give_7 (by decide) ?_
  refine g_istore_n g dX1_give_8 rfl (Nat.le_of_ble_eq_true rfl) ?_
  have loop : ∀ i, i ≤ 6 → ∀ u2 : dS, dFr [] [8] u1 u2 → (∀ j, j < 6 → u2.2 8 j = nI (w j)) → (∀ q, q < i → ¬ zok σ w t q) → gG E 9 [some (.ref (a 0)), some (.int (nI t)), some (.int (nI i))] [] u2 := by
    refine zdown 6 (fun i hi ih u2 hf2 hw2 hno => ?_)
    have hF2 : dFr [] [7, 8] u u2 := (hf1.up (by decide) (by decide)).tr (hf2.up (by decide) (by decide))
    have hu2 : zM σ u2 := hu.fr hF2 (by decide) (by decide)
    refine g_iload_n g dX1_give_9 rfl rfl ?_
    refine g_bipush (v := nI 6) g dX1_give_10 (by decide) ?_
    refine g_cmpge (tgt := 70) g dX1_give_12 (by decide) (nI_leI (by omega) (by omega)) (fun c => ?_) (fun c => ?_)
    · refine g_iconst (v := (-1)) g dX1_give_70 (by decide) ?_
      exact ret _ _ _ _ dX1_give_71 (⟨hF2, 6, w, Or.inr ⟨rfl, fun q hq => hno q (by omega), fun _ _ => rfl⟩, rfl, hw2⟩)
    have hi6 : i < 6 := by omega
    have hwi := (hw i hi6).2
    have nx : ∀ u3 : dS, dFr [] [8] u1 u3 → (∀ j, j < 6 → u3.2 8 j = nI (w j)) → ¬ zok σ w t i → gG E 64 [some (.ref (a 0)), some (.int (nI t)), some (.int (nI i))] [] u3 := by
      intro u3 hf3 hw3 hn
      refine g_iinc g dX1_give_64 rfl (n_inc _) ?_
      refine g_goto (tgt := 9) g dX1_give_67 (by decide) ?_
      refine ih hi6 u3 hf3 hw3 (fun q hq => ?_)
      by_cases hqi : q = i
      · subst hqi; exact hn
      · exact hno q (by omega)
    refine g_aload_n g dX1_give_15 rfl rfl ?_
    refine mo_get8 g k dX1_give_16 ?_
    refine g_iload_n g dX1_give_19 rfl rfl ?_
    refine mo_ld8 g k dX1_give_20 (rfl) (hi6) ?_
    rw [hw2 i hi6]
    refine g_ifle (tgt := 64) g dX1_give_21 (by decide) (n_le0 (by omega)) (fun c1 => ?_) (fun c1 => ?_)
    · exact nx u2 hf2 hw2 (fun z => by have := z.1; omega)
    have hthi := hth i hi6 (by omega)
    refine g_aload_n g dX1_give_24 rfl rfl ?_
    refine g_iconst (v := 1) g dX1_give_25 (by decide) ?_
    refine g_iload_n g dX1_give_26 rfl rfl ?_
    refine g_ishl g dX1_give_27 ?_
    refine g_iload_n g dX1_give_28 rfl rfl ?_
    refine mo_call_covers g k dX1_give_29 (mot_covers l hs hu2 ht _) (by decide) (Nat.le_of_ble_eq_true rfl) (fun r u3 ⟨hu3, hr⟩ => ?_)
    rw [zcov_1 hi6] at hr
    have e1 : zem σ i t = zed σ σ.2.2 i t := by unfold zem; rw [hthi]; rfl
    rw [e1] at hr
    subst hr
    rw [hu3]
    refine g_ifeq (tgt := 64) g dX1_give_32 (by decide) (bI_0) (fun c2 => ?_) (fun c2 => ?_)
    · exact nx u2 hf2 hw2 (fun z => by rw [z.2.1] at c2; cases c2)
    have hed := eq_true_of_ne_false c2
    refine g_aload_n g dX1_give_35 rfl rfl ?_
    refine mo_get8 g k dX1_give_36 ?_
    refine g_iload_n g dX1_give_39 rfl rfl ?_
    refine g_dup2 g dX1_give_40 rfl rfl ?_
    refine mo_ld8 g k dX1_give_41 (rfl) (hi6) ?_
    rw [hw2 i hi6]
    refine g_iconst (v := 1) g dX1_give_42 (by decide) ?_
    refine g_isub g dX1_give_43 ?_
    refine g_top (v := nI (w i - 1)) (by rw [show nI (w i) = nI (w i - 1 + 1) by rw [Nat.sub_add_cancel (by omega)]]; exact nI_pred _) ?_
    refine mo_st8 g k dX1_give_44 (rfl) (hi6) ?_
    have hwd : ∀ j, j < 6 → (dF u2 8 i (nI (w i - 1))).2 8 j = nI (zsubt w i j) ∧ zsubt w i j < 128 := fun j hj => by
      rw [dF_2, if_pos rfl]
      have := (hw j hj).2
      unfold zsubt
      by_cases hji : j = i
      · subst hji; simp only [if_true]; exact ⟨trivial, by omega⟩
      · simp only [hji, if_false]; exact ⟨hw2 j hj, this⟩
    have hfd : dFr [] [8] u1 (dF u2 8 i (nI (w i - 1))) := hf2.f (by decide)
    have hFd : dFr [] [7, 8] u (dF u2 8 i (nI (w i - 1))) := (hf1.up (by decide) (by decide)).tr (hfd.up (by decide) (by decide))
    have hud : zM σ (dF u2 8 i (nI (w i - 1))) := hu.fr hFd (by decide) (by decide)
    have hRd : zRm σ (t + 1) (dF u2 8 i (nI (w i - 1))) := fun S hS => by rw [hfd.2 7 (by decide)]; exact hR S hS
    have hz : zhall (zet σ (t + 1)) (zww σ (zsubt w i)) ↔ zhall (zel σ (t + 1)) (zsubt w i) := by
      refine (zet_ed zww_th).trans (zhall_cg (fun q hq => ?_))
      unfold zww
      cases hq2 : σ.1 q with
      | true => rfl
      | false =>
        have h0 : w q = 0 := by
          rcases Nat.eq_zero_or_pos (w q) with z | z
          · exact z
          · rw [hth q hq z] at hq2; cases hq2
        unfold zsubt
        split <;> simp [h0]
    refine g_aload_n g dX1_give_45 rfl rfl ?_
    refine mo_call_can g k dX1_give_46 (mot_can l hud hRd hwd) (by decide) (Nat.le_of_ble_eq_true rfl) (fun r u4 ⟨hu4, hr⟩ => ?_)
    rw [hu4]
    rcases hr with ⟨rfl, h⟩ | ⟨rfl, h⟩
    · refine g_ifeq (tgt := 54) g dX1_give_49 (by decide) (Iff.rfl) (fun c3 => ?_) (fun c3 => ?_)
      · exact absurd c3 (by decide)
      · refine g_iload_n g dX1_give_52 rfl rfl ?_
        exact ret _ _ _ _ dX1_give_53 (⟨hFd, i, zsubt w i, Or.inl ⟨hi6, ⟨by omega, hed, hz.mp h⟩, hno, fun _ _ => rfl⟩, (zen_lt hi6).symm, fun j hj => (hwd j hj).1⟩)
    · refine g_ifeq (tgt := 54) g dX1_give_49 (by decide) (Iff.rfl) (fun c3 => ?_) (fun c3 => ?_)
      rotate_left
      · exact absurd rfl c3
      refine g_aload_n g dX1_give_54 rfl rfl ?_
      refine mo_get8 g k dX1_give_55 ?_
      refine g_iload_n g dX1_give_58 rfl rfl ?_
      refine g_dup2 g dX1_give_59 rfl rfl ?_
      refine mo_ld8 g k dX1_give_60 (rfl) (hi6) ?_
      rw [(hwd i hi6).1]
      refine g_iconst (v := 1) g dX1_give_61 (by decide) ?_
      refine g_iadd g dX1_give_62 ?_
      refine g_top (v := nI (w i)) (by rw [nI_1]; unfold zsubt; rw [if_pos rfl, Nat.sub_add_cancel (by omega)]) ?_
      refine mo_st8 g k dX1_give_63 (rfl) (hi6) ?_
      refine nx _ (hfd.f (by decide)) (fun j hj => ?_) (fun z => h (hz.mpr z.2.2))
      rw [dF_2, if_pos rfl]
      by_cases hji : j = i
      · subst hji; simp
      · simp only [hji, if_false]
        rw [dF_2, if_pos rfl, if_neg hji]
        exact hw2 j hj
  exact loop 0 (by omega) u1 dFr.rf (fun j hj => by rw [hf1.2 8 (by decide)]; exact (hw j hj).1) (fun q hq => absurd hq (by omega))
set_option maxHeartbeats 1000000 in
theorem mot_at (l : Launch) {σ : zT} {u : dS} (hs : zOk σ) (hu : zM σ u) (hfit : zfit σ) (x : Int32) : gMi moC l yX1_at cX1_at 4 (some .int) (gR 3 71) [.int x] u (fun r u' => zM σ u' ∧ ((x < 0 ∨ nI 24 ≤ x) → r = -1) ∧ ∀ t, t < 24 → x = nI t → ∃ (od : Nat → Nat) (m0 : Nat) (K p : Nat → Nat) (W : Nat → Nat → Nat), zOrd σ od m0 ∧ zGr (zed σ σ.2.2) (zmu σ) (σ.2.1 4) od m0 K ∧ zPl σ (zw0 σ K) (t + 1) p W ∧ r = zen (p t)) := by
  refine gMi_of (by decide +kernel) (Nat.le_of_ble_eq_true rfl) cat1 ?_
  intro E a g k ret
  refine g_loc (lv' := [some (.ref (a 0)), some (.int x), none, none]) rfl ?_
  refine g_aload_n g dX1_at_0 rfl rfl ?_
  refine mo_call_tryAll g k dX1_at_1 (mot_tryAll l hs hu hfit) (by decide) (Nat.le_of_ble_eq_true rfl) (fun r u1 ⟨hf1, hTA⟩ => ?_)
  refine g_pop g dX1_at_4 rfl ?_
  refine g_iconst (v := nI 0) g dX1_at_5 (by decide) ?_
  refine g_istore_n g dX1_at_6 rfl (Nat.le_of_ble_eq_true rfl) ?_
  obtain ⟨od, m0, K, hO, hG, -, hK⟩ := hTA
  have hu1 : zM σ u1 := hu.fr hf1 (by decide) (by decide)
  have hw0th : ∀ j, 0 < zw0 σ K j → σ.1 j = true := fun j h => by
    unfold zw0 at h
    cases hs2 : σ.1 j with
    | true => rfl
    | false => rw [hs2] at h; simp at h
  have plan : ∀ i, i ≤ 24 → ∀ (u3 : dS) (p : Nat → Nat) (W : Nat → Nat → Nat) (who : Int32), dFr [] [7, 8] u1 u3 → zPl σ (zw0 σ K) i p W → (∀ j, j < 6 → u3.2 8 j = nI (W i j) ∧ W i j < 128 ∧ (0 < W i j → σ.1 j = true)) → (∀ q, q < i → nI q ≤ x) → who = (if i = 0 then -1 else zen (p (i - 1))) → gG E 55 [some (.ref (a 0)), some (.int x), some (.int who), some (.int (nI i))] [] u3 := by
    refine zdown 24 (fun i hi ih u3 p W who hf3 hPl hW hq hwho => ?_)
    have hu3 : zM σ u3 := hu1.fr hf3 (by decide) (by decide)
    have fin : (x < nI i ∨ 24 ≤ i) → gG E 78 [some (.ref (a 0)), some (.int x), some (.int who), some (.int (nI i))] [] u3 := by
      intro hx
      refine g_iload_n g dX1_at_78 rfl rfl ?_
      refine g_bipush (v := nI 24) g dX1_at_79 (by decide) ?_
      refine g_cmpge (tgt := 88) g dX1_at_81 (by decide) (Iff.rfl) (fun c2 => ?_) (fun c2 => ?_)
      · refine g_iconst (v := (-1)) g dX1_at_88 (by decide) ?_
        exact ret _ _ _ _ dX1_at_89 (⟨hu3, fun _ => rfl, fun t ht hxt => absurd c2 (by rw [hxt, nI_leI (by omega) (by omega)]; omega)⟩)
      · refine g_iload_n g dX1_at_84 rfl rfl ?_
        refine g_goto (tgt := 89) g dX1_at_85 (by decide) ?_
        refine ret _ _ _ _ dX1_at_89 (⟨hu3, fun z => ?_, fun t ht hxt => ⟨od, m0, K, p, W, hO, hG, ?_, ?_⟩⟩)
        · rcases z with z | z
          · have : i = 0 := by
              rcases Nat.eq_zero_or_pos i with y | y
              · exact y
              · have h1 := hq 0 y
                rw [nI_0, Int32.le_iff_toInt_le] at h1
                rw [Int32.lt_iff_toInt_lt] at z
                omega
            rw [hwho, if_pos this]
          · exact absurd z c2
        all_goals
          have hti : i = t + 1 := by
            rw [hxt, nI_ltI (by omega) (by omega)] at hx
            rcases Nat.lt_or_ge (t + 1) i with y | y
            · have h1 := hq (t + 1) y
              rw [hxt, nI_leI (by omega) (by omega)] at h1
              omega
            · omega
        · rw [← hti]; exact hPl
        · rw [hwho, if_neg (by omega), hti]; rfl
    refine g_iload_n g dX1_at_55 rfl rfl ?_
    refine g_iload_n g dX1_at_56 rfl rfl ?_
    refine g_cmpgt (tgt := 78) g dX1_at_57 (by decide) (Iff.rfl) (fun c1 => ?_) (fun c1 => ?_)
    · exact fin (Or.inl c1)
    refine g_iload_n g dX1_at_60 rfl rfl ?_
    refine g_bipush (v := nI 24) g dX1_at_61 (by decide) ?_
    refine g_cmpge (tgt := 78) g dX1_at_63 (by decide) (nI_leI (by omega) (by omega)) (fun c2 => ?_) (fun c2 => ?_)
    · exact fin (Or.inr c2)
    have hi24 : i < 24 := by omega
    refine g_aload_n g dX1_at_66 rfl rfl ?_
    refine g_iload_n g dX1_at_67 rfl rfl ?_
    refine mo_call_give g k dX1_at_68 (mot_give l hs hu3 hi24 (fun j hj => ⟨(hW j hj).1, (hW j hj).2.1⟩) (fun j hj => (hW j hj).2.2)) (by decide) (Nat.le_of_ble_eq_true rfl) (fun r u4 ⟨hf4, p1, w1, hst, hr, hw1⟩ => ?_)
    subst hr
    refine g_istore_n g dX1_at_71 rfl (Nat.le_of_ble_eq_true rfl) ?_
    refine g_iinc g dX1_at_72 rfl (n_inc _) ?_
    refine g_goto (tgt := 55) g dX1_at_75 (by decide) ?_
    refine ih hi24 u4 _ _ _ (hf3.tr hf4) (zPl_put hPl hst) (fun j hj => ?_) (fun q h1 => ?_) ?_
    · simp only [if_true]
      have h1 := zst_le hst hj
      have h2 := hW j hj
      exact ⟨hw1 j hj, by omega, fun z => h2.2.2 (by omega)⟩
    · by_cases hqi : q = i
      · subst hqi
        rw [Int32.lt_iff_toInt_lt] at c1
        rw [Int32.le_iff_toInt_le]
        omega
      · exact hq q (by omega)
    · rw [if_neg (by omega)]; simp
  have loop : ∀ i, i ≤ 6 → ∀ u3 : dS, dFr [] [8] u1 u3 → (∀ j, j < i → u3.2 8 j = nI (zw0 σ K j)) → gG E 7 [some (.ref (a 0)), some (.int x), some (.int (nI i)), none] [] u3 := by
    refine zdown 6 (fun i hi ih u3 hf3 hw => ?_)
    have hu3 : zM σ u3 := hu1.fr hf3 (by decide) (by decide)
    refine g_iload_n g dX1_at_7 rfl rfl ?_
    refine g_bipush (v := nI 6) g dX1_at_8 (by decide) ?_
    refine g_cmpge (tgt := 51) g dX1_at_10 (by decide) (nI_leI (by omega) (by omega)) (fun c => ?_) (fun c => ?_)
    · refine g_iconst (v := (-1)) g dX1_at_51 (by decide) ?_
      refine g_istore_n g dX1_at_52 rfl (Nat.le_of_ble_eq_true rfl) ?_
      refine g_iconst (v := nI 0) g dX1_at_53 (by decide) ?_
      refine g_istore_n g dX1_at_54 rfl (Nat.le_of_ble_eq_true rfl) ?_
      refine plan 0 (by omega) u3 (fun _ => 0) (fun _ => zw0 σ K) _ (hf3.up (by decide) (by decide)) ⟨fun _ _ => rfl, fun t ht => absurd ht (by omega)⟩ (fun j hj => ⟨hw j (by omega), ?_, hw0th j⟩) (fun q hq => absurd hq (by omega)) rfl
      unfold zw0
      split
      · rename_i hth
        have b1 := hs j hj
        have b2 := zGr_le hO hG hj hth
        omega
      · omega
    have hi6 : i < 6 := by omega
    have nx : gG E 44 [some (.ref (a 0)), some (.int x), some (.int (nI i)), none] [.int (nI (zw0 σ K i)), .int (nI i), .ref (a 8)] u3 := by
      refine mo_st8 g k dX1_at_44 (rfl) (hi6) ?_
      refine g_iinc g dX1_at_45 rfl (n_inc _) ?_
      refine g_goto (tgt := 7) g dX1_at_48 (by decide) ?_
      refine ih hi6 _ (hf3.f (by decide)) (fun j hj => ?_)
      rw [dF_2, if_pos rfl]
      by_cases hji : j = i
      · simp [hji]
      · simp only [hji, if_false]; exact hw j (by omega)
    refine g_aload_n g dX1_at_13 rfl rfl ?_
    refine mo_get8 g k dX1_at_14 ?_
    refine g_iload_n g dX1_at_17 rfl rfl ?_
    refine g_aload_n g dX1_at_18 rfl rfl ?_
    refine mo_get0 g k dX1_at_19 ?_
    refine g_iload_n g dX1_at_22 rfl rfl ?_
    refine mo_ld0 g k dX1_at_23 (rfl) (hi6) ?_
    rw [hu3.2 i hi6]
    refine g_ifeq (tgt := 43) g dX1_at_24 (by decide) (bI_0) (fun c2 => ?_) (fun c2 => ?_)
    · have e0 : zw0 σ K i = 0 := by unfold zw0; rw [c2]; rfl
      rw [e0] at nx
      refine g_iconst (v := nI 0) g dX1_at_43 (by decide) ?_
      exact nx
    have hth := eq_true_of_ne_false c2
    have e0 : zw0 σ K i = σ.2.1 3 i + K i := by unfold zw0; rw [hth]; rfl
    rw [e0] at nx
    refine g_aload_n g dX1_at_27 rfl rfl ?_
    refine mo_get3 g k dX1_at_28 ?_
    refine g_iload_n g dX1_at_31 rfl rfl ?_
    refine mo_ld3 g k dX1_at_32 (rfl) (hi6) ?_
    rw [hu3.1.1 3 (by omega) (by omega) i hi6]
    refine g_aload_n g dX1_at_33 rfl rfl ?_
    refine mo_get12 g k dX1_at_34 ?_
    refine g_iload_n g dX1_at_37 rfl rfl ?_
    refine mo_ld12 g k dX1_at_38 (rfl) (hi6) ?_
    rw [hf3.2 12 (by decide), hK i hi6 hth]
    refine g_iadd g dX1_at_39 ?_
    rw [nI_add]
    refine g_goto (tgt := 44) g dX1_at_40 (by decide) ?_
    exact nx
  exact loop 0 (by omega) u1 dFr.rf (fun j hj => absurd hj (by omega))
theorem zup_back (f : Nat → Nat → Nat) (k j m : Nat) : zup (zup f k j m) k j (f k j) = f := by
  funext k' j'
  unfold zup
  by_cases h : k' = k ∧ j' = j
  · obtain ⟨rfl, rfl⟩ := h; simp
  · simp [h]
theorem zM_f {σ : zT} {u : dS} {k j v : Nat} (h : zM σ u) (hk : 0 ≠ k) : zM (σ.1, zup σ.2.1 k j v, σ.2.2) (dF u k j (nI v)) := ⟨zA_f h.1, fun q hq => by rw [dF_n _ _ _ _ _ hk]; exact h.2 q hq⟩
theorem zgm_fit {σ : zT} {j m : Nat} (hth : σ.1 j = true) : zfit (σ.1, zup σ.2.1 3 j m, σ.2.2) ↔ zgm σ j m := by
  have e1 : ∀ i, i < 6 → zmu (σ.1, zup σ.2.1 3 j m, σ.2.2) i = if i = j then m else zmu σ i := fun i hi => by
    unfold zmu zup
    by_cases h : i = j
    · subst h; simp [hth]
    · simp [h]
  have e2 : ∀ i, i < 6 → ∀ t, t < 24 → zed (σ.1, zup σ.2.1 3 j m, σ.2.2) σ.2.2 i t = zed σ σ.2.2 i t := fun i hi t ht => by
    unfold zed zup
    simp
  exact (zhall_cg e1).trans (zhall_ed e2)
theorem zgm_0 {σ : zT} (h : zfit σ) (j : Nat) : zgm σ j 0 := zhall_mono (fun i _ => by split <;> omega) h
theorem zgm_le {σ : zT} {j m m' : Nat} (h : zgm σ j m') (hm : m ≤ m') : zgm σ j m := zhall_mono (fun i _ => by split <;> omega) h
set_option maxHeartbeats 1000000 in
theorem mot_greatestMust (l : Launch) {σ : zT} {u : dS} (hs : zOk σ) (hu : zM σ u) (hfit : zfit σ) (x : Int32) : gMi moC l yX1_greatestMust cX1_greatestMust 5 (some .int) (gR 3 68) [.int x] u (fun r u' => (zh σ.1 x = false → r = -1 ∧ u' = u) ∧ ∀ j, j < 6 → x = nI j → σ.1 j = true → zM σ u' ∧ ∃ n, n ≤ 6 ∧ r = nI n ∧ zgm σ j n ∧ (n < 6 → ¬ zgm σ j (n + 1))) := by
  refine gMi_of (by decide +kernel) (Nat.le_of_ble_eq_true rfl) cat1 ?_
  intro E a g k ret
  refine g_loc (lv' := [some (.ref (a 0)), some (.int x), none, none, none]) rfl ?_
  refine g_aload_n g dX1_greatestMust_0 rfl rfl ?_
  refine g_iload_n g dX1_greatestMust_1 rfl rfl ?_
  refine mo_call_is g k dX1_greatestMust_2 (mot_is l hu x) (by decide) (Nat.le_of_ble_eq_true rfl) (fun r u1 ⟨hu1, hr⟩ => ?_)
  subst hu1 hr
  refine g_ifne (tgt := 10) g dX1_greatestMust_5 (by decide) (bI_0) (fun c => ?_) (fun c => ?_)
  rotate_left
  · refine g_iconst (v := (-1)) g dX1_greatestMust_8 (by decide) ?_
    exact ret _ _ _ _ dX1_greatestMust_9 (⟨fun _ => ⟨rfl, rfl⟩, fun j hj hx hth => by rw [hx, zh_in hj, hth] at c; cases c⟩)
  obtain ⟨j, hj, rfl⟩ : ∃ j, j < 6 ∧ x = nI j := by
    rcases n_in x 6 (by decide) with h | h
    · exact absurd (zh_out h) c
    · exact h
  rw [zh_in hj] at c
  have hth : σ.1 j = true := eq_true_of_ne_false c
  have hbd := hs j hj
  refine g_aload_n g dX1_greatestMust_10 rfl rfl ?_
  refine mo_get3 g k dX1_greatestMust_11 ?_
  refine g_iload_n g dX1_greatestMust_14 rfl rfl ?_
  refine mo_ld3 g k dX1_greatestMust_15 (rfl) (hj) ?_
  rw [hu.1.1 3 (by omega) (by omega) j hj]
  refine g_istore_n g dX1_greatestMust_16 rfl (Nat.le_of_ble_eq_true rfl) ?_
  refine g_iconst (v := nI 0) g dX1_greatestMust_17 (by decide) ?_
  refine g_istore_n g dX1_greatestMust_18 rfl (Nat.le_of_ble_eq_true rfl) ?_
  refine g_iconst (v := nI 0) g dX1_greatestMust_19 (by decide) ?_
  refine g_istore g dX1_greatestMust_20 (Nat.le_of_ble_eq_true rfl) ?_
  have loop : ∀ i, i ≤ 7 → ∀ (u2 : dS) (m M : Nat), zM (σ.1, zup σ.2.1 3 j m, σ.2.2) u2 → M ≤ 6 → (∀ q, q < i → M < q → ¬ zgm σ j q) → (0 < i → zgm σ j M ∧ M < i) → gG E 22 [some (.ref (a 0)), some (.int (nI j)), some (.int (nI (σ.2.1 3 j))), some (.int (nI M)), some (.int (nI i))] [] u2 := by
    refine zdown 7 (fun i hi ih u2 m M hM hM6 hno hyes => ?_)
    refine g_iload g dX1_greatestMust_22 rfl ?_
    refine g_bipush (v := nI 6) g dX1_greatestMust_24 (by decide) ?_
    refine g_cmpgt (tgt := 57) g dX1_greatestMust_26 (by decide) (nI_ltI (by omega) (by omega)) (fun c1 => ?_) (fun c1 => ?_)
    · have : i = 7 := by omega
      subst this
      refine g_aload_n g dX1_greatestMust_57 rfl rfl ?_
      refine mo_get3 g k dX1_greatestMust_58 ?_
      refine g_iload_n g dX1_greatestMust_61 rfl rfl ?_
      refine g_iload_n g dX1_greatestMust_62 rfl rfl ?_
      refine mo_st3 g k dX1_greatestMust_63 (rfl) (hj) ?_
      refine g_iload_n g dX1_greatestMust_64 rfl rfl ?_
      refine ret _ _ _ _ dX1_greatestMust_65 (⟨fun z => by rw [zh_in hj] at z; exact absurd z c, fun i hi hij _ => ?_⟩)
      have : j = i := (nI_eq (by omega) (by omega)).mp hij
      subst this
      have hM2 := zM_f (k := 3) (j := j) (v := σ.2.1 3 j) hM (by decide)
      refine ⟨?_, M, hM6, rfl, (hyes (by omega)).1, fun z => hno (M + 1) (by omega) (by omega)⟩
      have e : ((σ.1, zup (zup σ.2.1 3 j m) 3 j (σ.2.1 3 j), σ.2.2) : zT) = σ := by rw [zup_back]
      have hM9 : zM (σ.1, zup (zup σ.2.1 3 j m) 3 j (σ.2.1 3 j), σ.2.2) (dF u2 3 j (nI (σ.2.1 3 j))) := hM2
      rw [e] at hM9
      exact hM9
    refine g_aload_n g dX1_greatestMust_29 rfl rfl ?_
    refine mo_get3 g k dX1_greatestMust_30 ?_
    refine g_iload_n g dX1_greatestMust_33 rfl rfl ?_
    refine g_iload g dX1_greatestMust_34 rfl ?_
    refine mo_st3 g k dX1_greatestMust_36 (rfl) (hj) ?_
    have hM2 : zM (σ.1, zup σ.2.1 3 j i, σ.2.2) (dF u2 3 j (nI i)) := by
      have := zM_f (k := 3) (j := j) (v := i) hM (by decide)
      have e : ((σ.1, zup (zup σ.2.1 3 j m) 3 j i, σ.2.2) : zT) = (σ.1, zup σ.2.1 3 j i, σ.2.2) := by
        refine Prod.ext rfl (Prod.ext ?_ rfl)
        funext k' j'
        show zup (zup σ.2.1 3 j m) 3 j i k' j' = zup σ.2.1 3 j i k' j'
        unfold zup
        split <;> rfl
      rw [← e]
      exact this
    have hs2 : zOk (σ.1, zup σ.2.1 3 j i, σ.2.2) := fun q hq => by
      have := hs q hq
      unfold zup
      simp
      split <;> omega
    refine g_aload_n g dX1_greatestMust_37 rfl rfl ?_
    refine mo_call_fits g k dX1_greatestMust_38 (mot_fits l hs2 hM2) (by decide) (Nat.le_of_ble_eq_true rfl) (fun r u3 ⟨hf3, hr⟩ => ?_)
    have hM3 := hM2.fr hf3 (by decide) (by decide)
    rw [zgm_fit hth] at hr
    rcases hr with ⟨rfl, h⟩ | ⟨rfl, h⟩
    · refine g_ifeq (tgt := 49) g dX1_greatestMust_41 (by decide) (Iff.rfl) (fun c2 => ?_) (fun c2 => ?_)
      · exact absurd c2 (by decide)
      refine g_iload g dX1_greatestMust_44 rfl ?_
      refine g_goto (tgt := 50) g dX1_greatestMust_46 (by decide) ?_
      refine g_istore_n g dX1_greatestMust_50 rfl (Nat.le_of_ble_eq_true rfl) ?_
      refine g_iinc g dX1_greatestMust_51 rfl (n_inc _) ?_
      refine g_goto (tgt := 22) g dX1_greatestMust_54 (by decide) ?_
      exact ih (by omega) u3 i i hM3 (by omega) (fun q h1 h2 => by omega) (fun _ => ⟨h, by omega⟩)
    · refine g_ifeq (tgt := 49) g dX1_greatestMust_41 (by decide) (Iff.rfl) (fun c2 => ?_) (fun c2 => ?_)
      rotate_left
      · exact absurd rfl c2
      refine g_iload_n g dX1_greatestMust_49 rfl rfl ?_
      refine g_istore_n g dX1_greatestMust_50 rfl (Nat.le_of_ble_eq_true rfl) ?_
      refine g_iinc g dX1_greatestMust_51 rfl (n_inc _) ?_
      refine g_goto (tgt := 22) g dX1_greatestMust_54 (by decide) ?_
      have hi0 : 0 < i := by
        rcases Nat.eq_zero_or_pos i with z | z
        · subst z; exact absurd (zgm_0 hfit j) h
        · exact z
      have := hyes hi0
      refine ih (by omega) u3 i M hM3 hM6 (fun q h1 h2 => ?_) (fun _ => ⟨this.1, by omega⟩)
      by_cases hqi : q = i
      · subst hqi; exact h
      · exact hno q (by omega) h2
  refine loop 0 (by omega) _ (σ.2.1 3 j) 0 ?_ (by omega) (fun q hq => absurd hq (by omega)) (fun z => absurd z (by omega))
  have e : ((σ.1, zup σ.2.1 3 j (σ.2.1 3 j), σ.2.2) : zT) = σ := by
    refine Prod.ext rfl (Prod.ext ?_ rfl)
    funext k' j'
    show zup σ.2.1 3 j (σ.2.1 3 j) k' j' = σ.2.1 k' j'
    unfold zup
    by_cases h : k' = 3 ∧ j' = j
    · obtain ⟨rfl, rfl⟩ := h; simp
    · simp [h]
  rw [e]
  exact hu
theorem mot_lossWithout (l : Launch) {σ : zT} {u : dS} (hs : zOk σ) (hu : zM σ u) (x : Int32) : gMi moC l yX1_lossWithout cX1_lossWithout 4 (some .int) (gR 3 71) [.int x] u (fun r u' => ((x < 0 ∨ nI 24 ≤ x) → r = -1 ∧ u' = u) ∧ ∀ t, t < 24 → x = nI t → zM σ u' ∧ ((r = -1 ∧ ¬ zhall (zed σ (zbl σ.2.2 t true)) (zmu σ)) ∨ (zhall (zed σ (zbl σ.2.2 t true)) (zmu σ) ∧ ∃ (od : Nat → Nat) (m0 : Nat) (K : Nat → Nat), zOrd σ od m0 ∧ zGr (zed σ (zbl σ.2.2 t true)) (zmu σ) (σ.2.1 4) od m0 K ∧ r = nI (zlost σ K)))) := by
  refine gMi_of (by decide +kernel) (Nat.le_of_ble_eq_true rfl) cat1 ?_
  intro E a g k ret
  refine g_loc (lv' := [some (.ref (a 0)), some (.int x), none, none]) rfl ?_
  refine g_iload_n g dX1_lossWithout_0 rfl rfl ?_
  refine g_iflt (tgt := 10) g dX1_lossWithout_1 (by decide) (Iff.rfl) (fun c1 => ?_) (fun c1 => ?_)
  · refine g_iconst (v := (-1)) g dX1_lossWithout_10 (by decide) ?_
    exact ret _ _ _ _ dX1_lossWithout_11 (⟨fun _ => ⟨rfl, rfl⟩, fun t ht hx => absurd c1 (by rw [hx]; exact nI_pos (by omega))⟩)
  refine g_iload_n g dX1_lossWithout_4 rfl rfl ?_
  refine g_bipush (v := nI 23) g dX1_lossWithout_5 (by decide) ?_
  refine g_cmple (tgt := 12) g dX1_lossWithout_7 (by decide) (Iff.rfl) (fun c2 => ?_) (fun c2 => ?_)
  rotate_left
  · refine g_iconst (v := (-1)) g dX1_lossWithout_10 (by decide) ?_
    exact ret _ _ _ _ dX1_lossWithout_11 (⟨fun _ => ⟨rfl, rfl⟩, fun t ht hx => absurd (by rw [hx]; exact nI_le (by omega) (by omega)) c2⟩)
  obtain ⟨t, ht, rfl⟩ : ∃ t, t < 24 ∧ x = nI t := by
    rcases n_in x 24 (by decide) with (h | h) | h
    · exact absurd h c1
    · rw [Int32.le_iff_toInt_le, nI_toInt (by omega)] at c2; rw [Int32.le_iff_toInt_le, nI_toInt (by omega)] at h; omega
    · exact h
  have bad : ¬ (nI t < 0 ∨ nI 24 ≤ nI t) := by
    rintro (z | z)
    · exact c1 z
    · rw [nI_leI (by omega) (by omega)] at z; omega
  refine g_aload_n g dX1_lossWithout_12 rfl rfl ?_
  refine mo_get6 g k dX1_lossWithout_13 ?_
  rw [hu.1.2]
  refine g_istore_n g dX1_lossWithout_16 rfl (Nat.le_of_ble_eq_true rfl) ?_
  refine g_aload_n g dX1_lossWithout_17 rfl rfl ?_
  refine g_aload_n g dX1_lossWithout_18 rfl rfl ?_
  refine mo_get6 g k dX1_lossWithout_19 ?_
  rw [hu.1.2]
  refine g_iconst (v := 1) g dX1_lossWithout_22 (by decide) ?_
  refine g_iload_n g dX1_lossWithout_23 rfl rfl ?_
  refine g_ishl g dX1_lossWithout_24 ?_
  refine g_ior g dX1_lossWithout_25 ?_
  have hu1 : zM (σ.1, σ.2.1, zbl σ.2.2 t true) (dI u 6 (σ.2.2 ||| ((1 : Int32) <<< (nI t &&& 31)))) := zM_b hu
  refine mo_put6 g k dX1_lossWithout_26 ?_
  refine g_aload_n g dX1_lossWithout_29 rfl rfl ?_
  refine mo_call_fits g k dX1_lossWithout_30 (mot_fits l (σ := (σ.1, σ.2.1, zbl σ.2.2 t true)) hs hu1) (by decide) (Nat.le_of_ble_eq_true rfl) (fun r u2 ⟨hf2, hr⟩ => ?_)
  have hu2 := hu1.fr hf2 (by decide) (by decide)
  rcases hr with ⟨rfl, h⟩ | ⟨rfl, h⟩
  · refine g_ifeq (tgt := 43) g dX1_lossWithout_33 (by decide) (Iff.rfl) (fun c3 => ?_) (fun c3 => ?_)
    · exact absurd c3 (by decide)
    refine g_aload_n g dX1_lossWithout_36 rfl rfl ?_
    refine mo_call_tryAll g k dX1_lossWithout_37 (mot_tryAll l (σ := (σ.1, σ.2.1, zbl σ.2.2 t true)) hs hu2 h) (by decide) (Nat.le_of_ble_eq_true rfl) (fun r u3 ⟨hf3, od, m0, K, hO, hG, hr, hK⟩ => ?_)
    refine g_goto (tgt := 44) g dX1_lossWithout_40 (by decide) ?_
    have hu3 := hu2.fr hf3 (by decide) (by decide)
    refine g_istore_n g dX1_lossWithout_44 rfl (Nat.le_of_ble_eq_true rfl) ?_
    refine g_aload_n g dX1_lossWithout_45 rfl rfl ?_
    refine g_iload_n g dX1_lossWithout_46 rfl rfl ?_
    refine mo_put6 g k dX1_lossWithout_47 ?_
    refine g_iload_n g dX1_lossWithout_50 rfl rfl ?_
    refine ret _ _ _ _ dX1_lossWithout_51 (⟨fun z => absurd z bad, fun i hi hij => ?_⟩)
    have : t = i := (nI_eq (by omega) (by omega)).mp hij
    subst this
    exact ⟨zM_b (σ := (σ.1, σ.2.1, zbl σ.2.2 t true)) hu3, Or.inr ⟨h, od, m0, K, hO, hG, hr⟩⟩
  · refine g_ifeq (tgt := 43) g dX1_lossWithout_33 (by decide) (Iff.rfl) (fun c3 => ?_) (fun c3 => ?_)
    rotate_left
    · exact absurd rfl c3
    refine g_iconst (v := (-1)) g dX1_lossWithout_43 (by decide) ?_
    refine g_istore_n g dX1_lossWithout_44 rfl (Nat.le_of_ble_eq_true rfl) ?_
    refine g_aload_n g dX1_lossWithout_45 rfl rfl ?_
    refine g_iload_n g dX1_lossWithout_46 rfl rfl ?_
    refine mo_put6 g k dX1_lossWithout_47 ?_
    refine g_iload_n g dX1_lossWithout_50 rfl rfl ?_
    refine ret _ _ _ _ dX1_lossWithout_51 (⟨fun z => absurd z bad, fun i hi hij => ?_⟩)
    have : t = i := (nI_eq (by omega) (by omega)).mp hij
    subst this
    exact ⟨zM_b (σ := (σ.1, σ.2.1, zbl σ.2.2 t true)) hu2, Or.inl ⟨rfl, h⟩⟩
theorem n_sub0 (x : Int32) : x - 0 = x := by grind
set_option maxHeartbeats 1000000 in
theorem mot_idle (l : Launch) {σ : zT} {u : dS} (hs : zOk σ) (hu : zM σ u) (hfit : zfit σ) : gMi moC l yX1_idle cX1_idle 3 (some .int) (gR 3 71) [] u (fun r u' => zM σ u' ∧ ∃ (od : Nat → Nat) (m0 : Nat) (K : Nat → Nat), zOrd σ od m0 ∧ zGr (zed σ σ.2.2) (zmu σ) (σ.2.1 4) od m0 K ∧ r = nI (zs (fun t => (!bt σ.2.2 t).toNat) 24) - nI (zs (zw0 σ K) 6)) := by
  refine gMi_of (by decide +kernel) (Nat.le_of_ble_eq_true rfl) cat0 ?_
  intro E a g k ret
  refine g_loc (lv' := [some (.ref (a 0)), none, none]) rfl ?_
  refine g_aload_n g dX1_idle_0 rfl rfl ?_
  refine mo_call_tryAll g k dX1_idle_1 (mot_tryAll l hs hu hfit) (by decide) (Nat.le_of_ble_eq_true rfl) (fun r u1 ⟨hf1, hTA⟩ => ?_)
  refine g_pop g dX1_idle_4 rfl ?_
  refine g_iconst (v := nI 0) g dX1_idle_5 (by decide) ?_
  refine g_istore_n g dX1_idle_6 rfl (Nat.le_of_ble_eq_true rfl) ?_
  refine g_iconst (v := nI 0) g dX1_idle_7 (by decide) ?_
  refine g_istore_n g dX1_idle_8 rfl (Nat.le_of_ble_eq_true rfl) ?_
  obtain ⟨od, m0, K, hO, hG, -, hK⟩ := hTA
  have hu1 : zM σ u1 := hu.fr hf1 (by decide) (by decide)
  have loop2 : ∀ i, i ≤ 6 → gG E 42 [some (.ref (a 0)), some (.int (nI (zs (fun t => (!bt σ.2.2 t).toNat) 24) - nI (zs (zw0 σ K) i))), some (.int (nI i))] [] u1 := by
    refine zdown 6 (fun i hi ih => ?_)
    refine g_iload_n g dX1_idle_42 rfl rfl ?_
    refine g_bipush (v := nI 6) g dX1_idle_43 (by decide) ?_
    refine g_cmpge (tgt := 83) g dX1_idle_45 (by decide) (nI_leI (by omega) (by omega)) (fun c => ?_) (fun c => ?_)
    · have : i = 6 := by omega
      subst this
      refine g_iload_n g dX1_idle_83 rfl rfl ?_
      exact ret _ _ _ _ dX1_idle_84 (⟨hu1, od, m0, K, hO, hG, rfl⟩)
    have hi6 : i < 6 := by omega
    have nx := ih hi6
    have e0 : zs (zw0 σ K) (i + 1) = zs (zw0 σ K) i + zw0 σ K i := rfl
    rw [e0] at nx
    refine g_iload_n g dX1_idle_48 rfl rfl ?_
    refine g_aload_n g dX1_idle_49 rfl rfl ?_
    refine mo_get0 g k dX1_idle_50 ?_
    refine g_iload_n g dX1_idle_53 rfl rfl ?_
    refine mo_ld0 g k dX1_idle_54 (rfl) (hi6) ?_
    rw [hu1.2 i hi6]
    refine g_ifeq (tgt := 74) g dX1_idle_55 (by decide) (bI_0) (fun c2 => ?_) (fun c2 => ?_)
    · have e1 : zw0 σ K i = 0 := by unfold zw0; rw [c2]; rfl
      rw [e1] at nx
      refine g_iconst (v := 0) g dX1_idle_74 (by decide) ?_
      refine g_isub g dX1_idle_75 ?_
      refine g_top (n_sub0 _) ?_
      refine g_istore_n g dX1_idle_76 rfl (Nat.le_of_ble_eq_true rfl) ?_
      refine g_iinc g dX1_idle_77 rfl (n_inc _) ?_
      refine g_goto (tgt := 42) g dX1_idle_80 (by decide) ?_
      exact nx
    have hth := eq_true_of_ne_false c2
    have e1 : zw0 σ K i = σ.2.1 3 i + K i := by unfold zw0; rw [hth]; rfl
    rw [e1] at nx
    refine g_aload_n g dX1_idle_58 rfl rfl ?_
    refine mo_get3 g k dX1_idle_59 ?_
    refine g_iload_n g dX1_idle_62 rfl rfl ?_
    refine mo_ld3 g k dX1_idle_63 (rfl) (hi6) ?_
    rw [hu1.1.1 3 (by omega) (by omega) i hi6]
    refine g_aload_n g dX1_idle_64 rfl rfl ?_
    refine mo_get12 g k dX1_idle_65 ?_
    refine g_iload_n g dX1_idle_68 rfl rfl ?_
    refine mo_ld12 g k dX1_idle_69 (rfl) (hi6) ?_
    rw [hK i hi6 hth]
    refine g_iadd g dX1_idle_70 ?_
    rw [nI_add]
    refine g_goto (tgt := 75) g dX1_idle_71 (by decide) ?_
    refine g_isub g dX1_idle_75 ?_
    refine g_top (n_subs _ _ _) ?_
    refine g_istore_n g dX1_idle_76 rfl (Nat.le_of_ble_eq_true rfl) ?_
    refine g_iinc g dX1_idle_77 rfl (n_inc _) ?_
    refine g_goto (tgt := 42) g dX1_idle_80 (by decide) ?_
    exact nx
  have loop1 : ∀ i, i ≤ 24 → gG E 9 [some (.ref (a 0)), some (.int (nI (zs (fun t => (!bt σ.2.2 t).toNat) i))), some (.int (nI i))] [] u1 := by
    refine zdown 24 (fun i hi ih => ?_)
    refine g_iload_n g dX1_idle_9 rfl rfl ?_
    refine g_bipush (v := nI 24) g dX1_idle_10 (by decide) ?_
    refine g_cmpge (tgt := 40) g dX1_idle_12 (by decide) (nI_leI (by omega) (by omega)) (fun c => ?_) (fun c => ?_)
    · have : i = 24 := by omega
      subst this
      have l0 := loop2 0 (by omega)
      have e : nI (zs (fun t => (!bt σ.2.2 t).toNat) 24) - nI (zs (zw0 σ K) 0) = nI (zs (fun t => (!bt σ.2.2 t).toNat) 24) := n_sub0 _
      rw [e] at l0
      refine g_iconst (v := nI 0) g dX1_idle_40 (by decide) ?_
      refine g_istore_n g dX1_idle_41 rfl (Nat.le_of_ble_eq_true rfl) ?_
      exact l0
    have nx := ih (by omega)
    have e0 : zs (fun t => (!bt σ.2.2 t).toNat) (i + 1) = zs (fun t => (!bt σ.2.2 t).toNat) i + (!bt σ.2.2 i).toNat := rfl
    rw [e0] at nx
    refine g_iload_n g dX1_idle_15 rfl rfl ?_
    refine g_aload_n g dX1_idle_16 rfl rfl ?_
    refine mo_get6 g k dX1_idle_17 ?_
    rw [hu1.1.2]
    refine g_iload_n g dX1_idle_20 rfl rfl ?_
    refine g_ishr g dX1_idle_21 ?_
    refine g_iconst (v := 1) g dX1_idle_22 (by decide) ?_
    refine g_iand g dX1_idle_23 ?_
    refine g_top (b_get (by omega)) ?_
    refine g_ifne (tgt := 31) g dX1_idle_24 (by decide) (bI_0) (fun c2 => ?_) (fun c2 => ?_)
    · rw [eq_true_of_ne_false c2] at nx
      refine g_iconst (v := 0) g dX1_idle_31 (by decide) ?_
      refine g_iadd g dX1_idle_32 ?_
      refine g_top (nI_add _ 0) ?_
      refine g_istore_n g dX1_idle_33 rfl (Nat.le_of_ble_eq_true rfl) ?_
      refine g_iinc g dX1_idle_34 rfl (n_inc _) ?_
      refine g_goto (tgt := 9) g dX1_idle_37 (by decide) ?_
      exact nx
    · rw [c2] at nx
      refine g_iconst (v := nI 1) g dX1_idle_27 (by decide) ?_
      refine g_goto (tgt := 32) g dX1_idle_28 (by decide) ?_
      refine g_iadd g dX1_idle_32 ?_
      rw [nI_add]
      refine g_istore_n g dX1_idle_33 rfl (Nat.le_of_ble_eq_true rfl) ?_
      refine g_iinc g dX1_idle_34 rfl (n_inc _) ?_
      refine g_goto (tgt := 9) g dX1_idle_37 (by decide) ?_
      exact nx
  exact loop1 0 (by omega)
end
section
/-! Model: freeable; that both ways of counting agree -/
theorem mot_freeable_bad (l : Launch) (u : dS) (x y : Int32) (hbad : zfb x y) : gMi moC l yX1_freeable cX1_freeable 6 (some .int) (gR 4 91) [.int x, .int y] u (fun r u' => r = -1 ∧ u' = u) := by
  refine gMi_of (by decide +kernel) (Nat.le_of_ble_eq_true rfl) cat2 ?_
  intro E a g k ret
  refine g_loc (lv' := [some (.ref (a 0)), some (.int x), some (.int y), none, none, none]) rfl ?_
  refine g_iload_n g dX1_freeable_0 rfl rfl ?_
  refine g_iflt (tgt := 15) g dX1_freeable_1 (by decide) (Iff.rfl) (fun c1 => ?_) (fun c1 => ?_)
  · refine g_iconst (v := (-1)) g dX1_freeable_15 (by decide) ?_
    exact ret _ _ _ _ dX1_freeable_16 (⟨rfl, rfl⟩)
  refine g_iload_n g dX1_freeable_4 rfl rfl ?_
  refine g_iload_n g dX1_freeable_5 rfl rfl ?_
  refine g_cmpge (tgt := 15) g dX1_freeable_6 (by decide) (Iff.rfl) (fun c2 => ?_) (fun c2 => ?_)
  · refine g_iconst (v := (-1)) g dX1_freeable_15 (by decide) ?_
    exact ret _ _ _ _ dX1_freeable_16 (⟨rfl, rfl⟩)
  refine g_iload_n g dX1_freeable_9 rfl rfl ?_
  refine g_bipush (v := nI 24) g dX1_freeable_10 (by decide) ?_
  refine g_cmple (tgt := 17) g dX1_freeable_12 (by decide) (Iff.rfl) (fun c3 => ?_) (fun c3 => ?_)
  rotate_left
  · refine g_iconst (v := (-1)) g dX1_freeable_15 (by decide) ?_
    exact ret _ _ _ _ dX1_freeable_16 (⟨rfl, rfl⟩)
  rcases hbad with z | z | z
  · exact absurd z c1
  · rw [Int32.le_iff_toInt_le] at c3; rw [Int32.lt_iff_toInt_lt] at z; omega
  · exact absurd z c2
/-- the units blocked one by one: B2 behind it -/
def zfq (σ : zT) (p q : Nat) (B2 : Int32) : Prop := zfit (σ.1, σ.2.1, B2) ∧ (∀ t, t < 24 → bt B2 t = true → bt σ.2.2 t = true ∨ (p ≤ t ∧ t < q)) ∧ (∀ t, t < 24 → bt σ.2.2 t = true → bt B2 t = true) ∧ ∀ t, t < 24 → p ≤ t → t < q → bt B2 t = false → ∃ B3 : Int32, (∀ s, s < 24 → bt B3 s = true → bt B2 s = true) ∧ ¬ zfit (σ.1, σ.2.1, zbl B3 t true)
def zfn (σ : zT) (p q : Nat) (B2 : Int32) (n : Nat) : Nat := zs (fun t => (decide (p ≤ t) && decide (t < q) && !bt σ.2.2 t && bt B2 t).toNat) n
theorem bt_bl {B : Int32} {t s : Nat} (ht : t < 32) (hs : s < 32) : bt (zbl B t true) s = (bt B s || decide (s = t)) := b_set ht hs
theorem n_m3 {t : Nat} (ht : t < 24) : ¬ (-3 : Int32) = nI t := by
  intro h
  have h1 : ((-3) : Int32).toInt = -3 := by decide +kernel
  rw [h, nI_toInt (by omega)] at h1
  omega
set_option maxHeartbeats 1000000 in
theorem mot_freeable (l : Launch) {σ : zT} {u : dS} {p q : Nat} (hs : zOk σ) (hu : zM σ u) (hfit : zfit σ) (hpq : p < q) (hq : q ≤ 24) : gMi moC l yX1_freeable cX1_freeable 6 (some .int) (gR 4 91) [.int (nI p), .int (nI q)] u (fun r u' => zM σ u' ∧ ∃ B2 : Int32, zfq σ p q B2 ∧ r = nI (zfn σ p q B2 24)) := by
  refine gMi_of (by decide +kernel) (Nat.le_of_ble_eq_true rfl) cat2 ?_
  intro E a g k ret
  refine g_loc (lv' := [some (.ref (a 0)), some (.int (nI p)), some (.int (nI q)), none, none, none]) rfl ?_
  refine g_iload_n g dX1_freeable_0 rfl rfl ?_
  refine g_iflt (tgt := 15) g dX1_freeable_1 (by decide) (n_lt0 (by omega)) (fun c1 => ?_) (fun c1 => ?_)
  · exact c1.elim
  refine g_iload_n g dX1_freeable_4 rfl rfl ?_
  refine g_iload_n g dX1_freeable_5 rfl rfl ?_
  refine g_cmpge (tgt := 15) g dX1_freeable_6 (by decide) (nI_leI (by omega) (by omega)) (fun c2 => ?_) (fun c2 => ?_)
  · omega
  refine g_iload_n g dX1_freeable_9 rfl rfl ?_
  refine g_bipush (v := nI 24) g dX1_freeable_10 (by decide) ?_
  refine g_cmple (tgt := 17) g dX1_freeable_12 (by decide) (nI_leI (by omega) (by omega)) (fun c3 => ?_) (fun c3 => ?_)
  rotate_left
  · omega
  refine g_aload_n g dX1_freeable_17 rfl rfl ?_
  refine mo_get6 g k dX1_freeable_18 ?_
  rw [hu.1.2]
  refine g_istore_n g dX1_freeable_21 rfl (Nat.le_of_ble_eq_true rfl) ?_
  refine g_iconst (v := nI 0) g dX1_freeable_22 (by decide) ?_
  refine g_istore g dX1_freeable_23 (Nat.le_of_ble_eq_true rfl) ?_
  refine g_iload_n g dX1_freeable_25 rfl rfl ?_
  refine g_istore g dX1_freeable_26 (Nat.le_of_ble_eq_true rfl) ?_
  have loop : ∀ i, i ≤ q → p ≤ i → ∀ (u1 : dS) (B2 : Int32), zM (σ.1, σ.2.1, B2) u1 → zfit (σ.1, σ.2.1, B2) → (∀ t, t < 24 → bt B2 t = true → bt σ.2.2 t = true ∨ (p ≤ t ∧ t < i)) → (∀ t, t < 24 → bt σ.2.2 t = true → bt B2 t = true) → (∀ t, t < 24 → p ≤ t → t < i → bt B2 t = false → ∃ B3 : Int32, (∀ s, s < 24 → bt B3 s = true → bt B2 s = true) ∧ ¬ zfit (σ.1, σ.2.1, zbl B3 t true)) → gG E 28 [some (.ref (a 0)), some (.int (nI p)), some (.int (nI q)), some (.int σ.2.2), some (.int (nI (zfn σ p q B2 i))), some (.int (nI i))] [] u1 := by
    refine zdown q (fun i hi ih hpi u1 B2 hM hfit1 h1 h2 h3 => ?_)
    refine g_iload g dX1_freeable_28 rfl ?_
    refine g_iload_n g dX1_freeable_30 rfl rfl ?_
    refine g_cmpge (tgt := 74) g dX1_freeable_31 (by decide) (nI_leI (by omega) (by omega)) (fun c4 => ?_) (fun c4 => ?_)
    · have : i = q := by omega
      subst this
      refine g_aload_n g dX1_freeable_74 rfl rfl ?_
      refine g_iload_n g dX1_freeable_75 rfl rfl ?_
      refine mo_put6 g k dX1_freeable_76 ?_
      refine g_iload g dX1_freeable_79 rfl ?_
      refine ret _ _ _ _ dX1_freeable_81 (⟨zM_b (σ := (σ.1, σ.2.1, B2)) hM, B2, ⟨hfit1, h1, h2, h3⟩, ?_⟩)
      congr 1
      have : ∀ n, zfn σ p i B2 (i + n) = zfn σ p i B2 i := by
        intro n
        induction n with
        | zero => rfl
        | succ n ihn =>
          show zfn σ p i B2 (i + n) + (decide (p ≤ i + n) && decide (i + n < i) && !bt σ.2.2 (i + n) && bt B2 (i + n)).toNat = _
          rw [ihn, decide_eq_false (show ¬ i + n < i by omega)]
          simp
      have h24 := this (24 - i)
      rw [show i + (24 - i) = 24 by omega] at h24
      exact h24.symm
    have hi24 : i < 24 := by omega
    have es : ∀ B : Int32, zfn σ p q B (i + 1) = zfn σ p q B i + (!bt σ.2.2 i && bt B i).toNat := fun B => by
      show zfn σ p q B i + (decide (p ≤ i) && decide (i < q) && !bt σ.2.2 i && bt B i).toNat = _
      rw [decide_eq_true hpi, decide_eq_true (show i < q by omega)]
      rfl
    refine g_aload_n g dX1_freeable_34 rfl rfl ?_
    refine mo_get6 g k dX1_freeable_35 ?_
    rw [hM.1.2]
    refine g_iload g dX1_freeable_38 rfl ?_
    refine g_ishr g dX1_freeable_40 ?_
    refine g_iconst (v := 1) g dX1_freeable_41 (by decide) ?_
    refine g_iand g dX1_freeable_42 ?_
    refine g_top (b_get (by omega)) ?_
    refine g_ifne (tgt := 68) g dX1_freeable_43 (by decide) (bI_0) (fun c5 => ?_) (fun c5 => ?_)
    · have hb : bt B2 i = true := eq_true_of_ne_false c5
      have hbo : bt σ.2.2 i = true := by
        rcases h1 i hi24 hb with z | z
        · exact z
        · omega
      have nx := ih (by omega) (by omega) u1 B2 hM hfit1 (fun t ht hbt => by rcases h1 t ht hbt with z | z; exact Or.inl z; exact Or.inr ⟨z.1, by omega⟩) h2 (fun t ht hp hti hbt => h3 t ht hp (by
        rcases Nat.lt_or_ge t i with z | z
        · exact z
        · have : t = i := by omega
          subst this
          rw [hb] at hbt; cases hbt) hbt)
      rw [es, hbo] at nx
      refine g_iinc g dX1_freeable_68 rfl (n_inc _) ?_
      refine g_goto (tgt := 28) g dX1_freeable_71 (by decide) ?_
      exact nx
    have hbi : bt B2 i = false := c5
    have hbo : bt σ.2.2 i = false := by
      cases z : bt σ.2.2 i with
      | false => rfl
      | true => rw [h2 i hi24 z] at hbi; cases hbi
    refine g_iload g dX1_freeable_46 rfl ?_
    refine g_aload_n g dX1_freeable_48 rfl rfl ?_
    refine g_iload g dX1_freeable_49 rfl ?_
    refine g_iconst (v := nI 1) g dX1_freeable_51 (by decide) ?_
    refine mo_call_block g k dX1_freeable_52 (mot_block l (σ := (σ.1, σ.2.1, B2)) hs hM (nI i) true) (by decide) (Nat.le_of_ble_eq_true rfl) (fun r u2 ⟨_, hr⟩ => ?_)
    have hr := hr i hi24 rfl
    by_cases hf2 : zfit (σ.1, σ.2.1, zbl B2 i true)
    · obtain ⟨rfl, hM2⟩ := hr.1 hf2
      have nx := ih (by omega) (by omega) u2 (zbl B2 i true) hM2 hf2 (fun t ht hbt => by
        rw [bt_bl (by omega) (by omega), Bool.or_eq_true] at hbt
        rcases hbt with z | z
        · rcases h1 t ht z with y | y
          · exact Or.inl y
          · exact Or.inr ⟨y.1, by omega⟩
        · have := of_decide_eq_true z
          exact Or.inr ⟨by omega, by omega⟩) (fun t ht hbt => by rw [bt_bl (by omega) (by omega), h2 t ht hbt]; rfl) (fun t ht hp hti hbt => by
        rw [bt_bl (by omega) (by omega), Bool.or_eq_false_iff] at hbt
        have hne : ¬ t = i := of_decide_eq_false hbt.2
        obtain ⟨B3, b1, b2⟩ := h3 t ht hp (by omega) hbt.1
        exact ⟨B3, fun s hs hb => by rw [bt_bl (by omega) (by omega), b1 s hs hb]; rfl, b2⟩)
      have ez : zfn σ p q (zbl B2 i true) i = zfn σ p q B2 i := zs_congr (fun t ht => by
        rw [bt_bl (by omega) (by omega), decide_eq_false (show ¬ t = i by omega), Bool.or_false])
      rw [es, hbo, bt_bl (by omega) (by omega), decide_eq_true rfl, Bool.or_true, ez] at nx
      refine g_iload g dX1_freeable_55 rfl ?_
      refine g_cmpne (tgt := 64) g dX1_freeable_57 (by decide) (Iff.rfl) (fun c6 => ?_) (fun c6 => ?_)
      · exact absurd rfl c6
      refine g_iconst (v := nI 1) g dX1_freeable_60 (by decide) ?_
      refine g_goto (tgt := 65) g dX1_freeable_61 (by decide) ?_
      refine g_iadd g dX1_freeable_65 ?_
      rw [nI_add]
      refine g_istore g dX1_freeable_66 (Nat.le_of_ble_eq_true rfl) ?_
      refine g_iinc g dX1_freeable_68 rfl (n_inc _) ?_
      refine g_goto (tgt := 28) g dX1_freeable_71 (by decide) ?_
      exact nx
    · obtain ⟨rfl, hM2⟩ := hr.2 hf2
      have nx := ih (by omega) (by omega) u2 B2 hM2 hfit1 (fun t ht hbt => by rcases h1 t ht hbt with z | z; exact Or.inl z; exact Or.inr ⟨z.1, by omega⟩) h2 (fun t ht hp hti hbt => by
        by_cases hne : t = i
        · subst hne; exact ⟨B2, fun _ _ h => h, hf2⟩
        · exact h3 t ht hp (by omega) hbt)
      rw [es, hbi, Bool.and_false] at nx
      refine g_iload g dX1_freeable_55 rfl ?_
      refine g_cmpne (tgt := 64) g dX1_freeable_57 (by decide) (Iff.rfl) (fun c6 => ?_) (fun c6 => ?_)
      rotate_left
      · exact absurd c6 (n_m3 hi24)
      refine g_iconst (v := 0) g dX1_freeable_64 (by decide) ?_
      refine g_iadd g dX1_freeable_65 ?_
      refine g_top (nI_add _ 0) ?_
      refine g_istore g dX1_freeable_66 (Nat.le_of_ble_eq_true rfl) ?_
      refine g_iinc g dX1_freeable_68 rfl (n_inc _) ?_
      refine g_goto (tgt := 28) g dX1_freeable_71 (by decide) ?_
      exact nx
  have l0 := loop p (by omega) (Nat.le_refl _) u σ.2.2 hu hfit (fun t _ h => Or.inl h) (fun t _ h => h) (fun t _ a b => absurd b (by omega))
  have e0 : zfn σ p q σ.2.2 p = 0 := zs_zero (fun t ht => by cases bt σ.2.2 t <;> simp)
  rw [e0] at l0
  exact l0
/-- both counts -/
theorem zfree_eq {σ : zT} {p q : Nat} {w : Nat → Nat} {B2 : Int32} (hw : zfr σ p q w) (hB : zfq σ p q B2) : zs w 6 ≤ zs (zmu σ) 6 ∧ zfn σ p q B2 24 + (zs (zmu σ) 6 - zs w 6) = zins σ p q := by
  obtain ⟨hw1, hw2⟩ := hw
  obtain ⟨hB1, hB2, hB3, hB4⟩ := hB
  -- the units inside that stay unblocked
  have hsum : zfn σ p q B2 24 + zs (fun t => (decide (p ≤ t) && decide (t < q) && !bt B2 t).toNat) 24 = zins σ p q := by
    unfold zfn zins
    rw [← zs_add]
    refine zs_congr (fun t ht => ?_)
    cases hb : bt σ.2.2 t with
    | true => rw [hB3 t ht hb]; simp
    | false => cases bt B2 t <;> cases decide (p ≤ t) <;> cases decide (t < q) <;> rfl
  have hle : zs w 6 ≤ zs (zmu σ) 6 := zs_le (fun j hj => (hw2 j hj).1)
  have sp : ∀ (f : Nat → Nat) (T : Nat → Bool), zs f 6 = zw f T + zw f (fun j => !T j) := zw_split
  -- outside + unblocked ≥ wanted
  have h1 : zs (zmu σ) 6 ≤ zs w 6 + zs (fun t => (decide (p ≤ t) && decide (t < q) && !bt B2 t).toNat) 24 := by
    obtain ⟨T, t1, t2⟩ := ztight_union hw1 (fun j S => w j < zmu σ j → S j = true) (fun k S T hST hS h => hST _ (hS h)) 6 (fun j hj => by
      by_cases hd : w j < zmu σ j
      · obtain ⟨v, v1, v2⟩ := (hw2 j hj).2 hd
        obtain ⟨S, s1, s2⟩ := ztight_of hw1 v1 v2 hj
        exact ⟨S, s1, fun _ => s2⟩
      · obtain ⟨S, s1⟩ := ztight_0 hw1
        exact ⟨S, s1, fun h => absurd h hd⟩)
    have a1 : zw (zmu σ) T ≤ zcn (zed (σ.1, σ.2.1, B2) B2) T := hB1 T
    have a2 : zcn (zed (σ.1, σ.2.1, B2) B2) T ≤ zcn (zeo σ p q) T + zs (fun t => (decide (p ≤ t) && decide (t < q) && !bt B2 t).toNat) 24 := by
      unfold zcn
      rw [← zs_add]
      refine zs_le (fun t ht => ?_)
      cases hc : zcov (zed (σ.1, σ.2.1, B2) B2) T t with
      | false => exact Nat.zero_le _
      | true =>
        obtain ⟨j, j1, j2, j3⟩ := zcov_iff.mp hc
        unfold zed at j3
        simp only [Bool.and_eq_true, decide_eq_true_eq, Bool.not_eq_true'] at j3
        by_cases hin : p ≤ t ∧ t < q
        · rw [decide_eq_true hin.1, decide_eq_true hin.2, j3.2]
          exact Nat.le_add_left _ _
        · have hbo : bt σ.2.2 t = false := by
            cases z : bt σ.2.2 t with
            | false => rfl
            | true => rw [hB3 t ht z] at j3; cases j3.2
          have : zcov (zeo σ p q) T t = true := zcov_iff.mpr ⟨j, j1, j2, by
            unfold zeo zed
            rw [decide_eq_true j3.1.1, decide_eq_true j3.1.2, hbo]
            have : (decide (p ≤ t) && decide (t < q)) = false := by
              rcases Nat.lt_or_ge t p with z | z
              · rw [decide_eq_false (show ¬ p ≤ t by omega)]; rfl
              · rw [decide_eq_false (show ¬ t < q by omega), Bool.and_false]
            rw [this]; rfl⟩
          rw [this]
          exact Nat.le_add_right _ _
    have a3 : zw (zmu σ) (fun j => !T j) ≤ zw w (fun j => !T j) := zw_mono (fun j hj hs => ⟨hs, by
      rcases Nat.lt_or_ge (w j) (zmu σ j) with z | z
      · rw [t2 j hj z] at hs; cases hs
      · exact z⟩)
    unfold ztight at t1
    have e1 := sp (zmu σ) T
    have e2 := sp w T
    omega
  -- outside + unblocked ≤ wanted
  have h2 : zs w 6 + zs (fun t => (decide (p ≤ t) && decide (t < q) && !bt B2 t).toNat) 24 ≤ zs (zmu σ) 6 := by
    have hB1' : zhall (zed σ B2) (zmu σ) := hB1
    obtain ⟨T, t1, t2⟩ := ztight_union hB1' (fun t S => (p ≤ t ∧ t < q ∧ bt B2 t = false) → zcov (zed σ B2) S t = true) (fun k S T hST hS h => by
      obtain ⟨j, j1, j2, j3⟩ := zcov_iff.mp (hS h)
      exact zcov_iff.mpr ⟨j, j1, hST j j2, j3⟩) 24 (fun t ht => by
      by_cases hin : p ≤ t ∧ t < q ∧ bt B2 t = false
      · obtain ⟨B3, b1, b2⟩ := hB4 t ht hin.1 hin.2.1 hin.2.2
        have b3 : ¬ zhall (zed σ (zbl B3 t true)) (zmu σ) := b2
        have b4 : ∃ S, ¬ zw (zmu σ) S ≤ zcn (zed σ (zbl B3 t true)) S := Classical.byContradiction (fun z => b3 (fun S => Classical.byContradiction (fun y => z ⟨S, y⟩)))
        obtain ⟨S, hS⟩ := b4
        have c1 := hB1' S
        -- taking one unit away loses at most one
        have c2 : zcn (zed σ B2) S ≤ zcn (zed σ (zbl B3 t true)) S + (zcov (zed σ B2) S t).toNat := by
          have e := zs_upd (f := fun s => (zcov (zed σ (zbl B3 t true)) S s).toNat) (d := (zcov (zed σ B2) S t).toNat) ht
          unfold zcn
          rw [← e]
          refine zs_le (fun s hs => ?_)
          by_cases hst : s = t
          · subst hst
            simp only [if_true]
            exact Nat.le_add_left _ _
          · simp only [hst, if_false]
            refine ztn (fun hc => ?_)
            obtain ⟨j, j1, j2, j3⟩ := zcov_iff.mp hc
            refine zcov_iff.mpr ⟨j, j1, j2, ?_⟩
            unfold zed at j3 ⊢
            simp only [Bool.and_eq_true, decide_eq_true_eq, Bool.not_eq_true'] at j3 ⊢
            refine ⟨j3.1, ?_⟩
            rw [bt_bl (by omega) (by omega), decide_eq_false hst, Bool.or_false]
            cases z : bt B3 s with
            | false => rfl
            | true => rw [b1 s hs z] at j3; cases j3.2
        refine ⟨S, ?_, fun _ => ?_⟩
        · unfold ztight
          cases hz : zcov (zed σ B2) S t with
          | false => rw [hz] at c2; simp at c2; omega
          | true => rw [hz] at c2; simp at c2; omega
        · cases hz : zcov (zed σ B2) S t with
          | true => rfl
          | false => rw [hz] at c2; simp at c2; omega
      · obtain ⟨S, s1⟩ := ztight_0 hB1'
        exact ⟨S, s1, fun h => absurd h hin⟩)
    have a1 := hw1 T
    have a2 : zcn (zeo σ p q) T + zs (fun t => (decide (p ≤ t) && decide (t < q) && !bt B2 t).toNat) 24 ≤ zcn (zed σ B2) T := by
      unfold zcn
      rw [← zs_add]
      refine zs_le (fun t ht => ?_)
      by_cases hin : p ≤ t ∧ t < q
      · have e0 : zcov (zeo σ p q) T t = false := by
          cases hc : zcov (zeo σ p q) T t with
          | false => rfl
          | true =>
            obtain ⟨j, j1, j2, j3⟩ := zcov_iff.mp hc
            unfold zeo at j3
            rw [decide_eq_true hin.1, decide_eq_true hin.2] at j3
            simp at j3
        rw [e0, decide_eq_true hin.1, decide_eq_true hin.2]
        cases hb : bt B2 t with
        | true => simp
        | false => rw [t2 t ht ⟨hin.1, hin.2, hb⟩]; simp
      · have e0 : (decide (p ≤ t) && decide (t < q)) = false := by
          rcases Nat.lt_or_ge t p with z | z
          · rw [decide_eq_false (show ¬ p ≤ t by omega)]; rfl
          · rw [decide_eq_false (show ¬ t < q by omega), Bool.and_false]
        rw [e0, Bool.false_and]
        refine Nat.le_trans (Nat.le_of_eq (Nat.add_zero _)) (ztn (fun hc => ?_))
        obtain ⟨j, j1, j2, j3⟩ := zcov_iff.mp hc
        unfold zeo at j3
        rw [Bool.and_eq_true] at j3
        refine zcov_iff.mpr ⟨j, j1, j2, ?_⟩
        have j4 := j3.1
        unfold zed at j4 ⊢
        simp only [Bool.and_eq_true, decide_eq_true_eq, Bool.not_eq_true'] at j4 ⊢
        refine ⟨j4.1, ?_⟩
        cases z : bt B2 t with
        | false => rfl
        | true =>
          rcases hB2 t ht z with y | y
          · rw [y] at j4; cases j4.2
          · exact absurd y hin
    have a3 : zw w (fun j => !T j) ≤ zw (zmu σ) (fun j => !T j) := zw_mono (fun j hj hs => ⟨hs, (hw2 j hj).1⟩)
    unfold ztight at t1
    have e1 := sp (zmu σ) T
    have e2 := sp w T
    omega
  refine ⟨hle, ?_⟩
  omega
end
section
def z0 : dS := (fun _ => 0, fun _ _ => 0)
def dkF0 : List Value := [.int 0, .null, .null, .null, .null, .null, .int 0, .int 0, .null, .int 0, .null, .int 0, .null, .null, .int 0, .int 0, .null, .null, .null]
set_option maxHeartbeats 4000000 in
set_option maxRecDepth 100000 in
theorem met_init (l : Launch) (D : va_G) (h0 sz : Nat) : Met l yX0_init (ws_ yX0_init cX0_init 1 none) { frames := 1, cells := 12, slots := 110, locals := 12 } (va_Pc [.ref h0] (fun U => U.heap.size = sz ∧ va_P D vwCl [(h0, .inr (0, dkF0))] U.heap ∧ va_K D vwCl [] U ∧ va_D (fun _ => True) [(h0, .inr (0, dkF0))])) (va_Qv (fun z : (Nat → Nat) × (Nat → ClassId) => z.1 0 = h0) (fun z t => va_P D vwCl (dkW z.1 z.2 z0) t.heap ∧ va_K D vwCl (dkTy z.2) t ∧ va_D (va_A [(h0, .inr (0, dkF0))] sz) (dkW z.1 z.2 z0)) (va_A [(h0, .inr (0, dkF0))] sz)) 12 110 (va_A [(h0, .inr (0, dkF0))] sz) := by
  refine Met.ofW (cc := cX0_init) (maxL := 1) (ret := none) (by decide +kernel) rfl ?_
  intro p e s m args below meth c s₁ B hml hv
  obtain ⟨rfl, hsz, hP, hK, hD0⟩ := hv
  have hx := B.exec
  have hb := B.bytes
  have hr := B.returns
  have hts0 := atoms_spec (ws := ws_ yX0_init cX0_init 1 none) B.pre
  have hts : ∀ w ∈ lw_all, w.before _ s = true := fun w h => hts0 w (List.mem_cons_of_mem _ h)
  have hown : s.vm.findClass RX0 = some m.cls := findClass_of_methodNamed B.named
  have hlocks := B.notSynchronized
  have hin : meth.name = "<init>" := (name_of_methodNamed B.named B.method).1
  subst hsz
  have hD := hD0.self (sz := s.heap.size)
  generalize hAe : va_A [(h0, .inr (0, dkF0))] s.heap.size = A at hD ⊢
  have hA : ∀ q : Nat, s.heap.size ≤ q → A q := fun q h => by rw [← hAe]; exact Or.inr h
  have hS : va_S A s.heap s.heap [] := va_S.rf
  have hl := lv_entry ([.ref h0]) (n := 1) (Nat.le_of_ble_eq_true rfl)
  rw [lg_entry_eq]
  generalize (lg_sl ([.ref h0]) ++ List.replicate (1 - (lg_sl ([.ref h0])).length) Slot.unset).toArray = ls at hl ⊢
  have hl : lv_has ls 1 [(0, .ref h0)] := hl
  refine lv_aload_n hx hb dX0_init_0 rfl (lv_at hl 0 rfl) ?_
  refine W.objInit hx hb hown (hts _ q38) (hts _ q39) (hts _ q40) rfl (by rw [hml]; exact hl.1) rfl dX0_init_1 (Nat.le_of_ble_eq_true rfl) (Nat.le_of_ble_eq_true rfl) ?_
  refine W.eq (g2 := F0 m 4 ls []) rfl ?_
  refine lv_aload_n hx hb dX0_init_4 rfl (lv_at hl 0 rfl) ?_
  refine lv_bipush (v := nI 6) hx hb dX0_init_5 (by decide) ?_
  refine va_newa (atype := .byte) (a0 := (6, .inl (fun _ => 0))) (N' := 6) (ty := .byte) hx hb (hts _ q99) rfl hK hP hD hS hA (fun _ => rfl) (by decide +kernel) (by decide +kernel) (by decide) (Nat.le_of_ble_eq_true rfl) (Nat.le_of_ble_eq_true rfl) dX0_init_7 (fun a1 d1 H hK hP hD hS => ?_)
  have hP : va_P D vwCl [(h0, .inr (0, [.int 0, .null, .null, .null, .null, .null, .int 0, .int 0, .null, .int 0, .null, .int 0, .null, .null, .int 0, .int 0, .null, .null, .null])), (a1, .inl (d1, 6, .inl (fun _ => 0)))] H := hP
  have hD : va_D A [(h0, .inr (0, [.int 0, .null, .null, .null, .null, .null, .int 0, .int 0, .null, .int 0, .null, .int 0, .null, .null, .int 0, .int 0, .null, .null, .null])), (a1, .inl (d1, 6, .inl (fun _ => 0)))] := hD
  have hK : va_K D vwCl [(d1, .byte)] s := hK
  refine va_putF (D := D) (ci := 0) (v := .ref a1) (ty := .array .byte) (C := RX0) (T := TX0) (N := 19) hx hb hts in_X0 tyX0 tyX0_ok nmX0 hown hK hP hD hS 0 rfl rfl 1 (by decide) (hts _ q42) (fun _ h9 => h9) rfl hin rfl (by decide +kernel) rfl rfl (Nat.le_of_ble_eq_true rfl) dX0_init_9 (fun H locs hP hD hS => ?_)
  have hP : va_P D vwCl [(h0, .inr (0, [.int 0, .ref a1, .null, .null, .null, .null, .int 0, .int 0, .null, .int 0, .null, .int 0, .null, .null, .int 0, .int 0, .null, .null, .null])), (a1, .inl (d1, 6, .inl (fun _ => 0)))] H := hP
  have hD : va_D A [(h0, .inr (0, [.int 0, .ref a1, .null, .null, .null, .null, .int 0, .int 0, .null, .int 0, .null, .int 0, .null, .null, .int 0, .int 0, .null, .null, .null])), (a1, .inl (d1, 6, .inl (fun _ => 0)))] := hD
  refine lv_aload_n hx hb dX0_init_12 rfl (lv_at hl 0 rfl) ?_
  refine lv_bipush (v := nI 6) hx hb dX0_init_13 (by decide) ?_
  refine va_newa (atype := .byte) (a0 := (6, .inl (fun _ => 0))) (N' := 6) (ty := .byte) hx hb (hts _ q99) rfl hK hP hD hS hA (fun _ => rfl) (by decide +kernel) (by decide +kernel) (by decide) (Nat.le_of_ble_eq_true rfl) (Nat.le_of_ble_eq_true rfl) dX0_init_15 (fun a2 d2 H hK hP hD hS => ?_)
  have hP : va_P D vwCl [(h0, .inr (0, [.int 0, .ref a1, .null, .null, .null, .null, .int 0, .int 0, .null, .int 0, .null, .int 0, .null, .null, .int 0, .int 0, .null, .null, .null])), (a1, .inl (d1, 6, .inl (fun _ => 0))), (a2, .inl (d2, 6, .inl (fun _ => 0)))] H := hP
  have hD : va_D A [(h0, .inr (0, [.int 0, .ref a1, .null, .null, .null, .null, .int 0, .int 0, .null, .int 0, .null, .int 0, .null, .null, .int 0, .int 0, .null, .null, .null])), (a1, .inl (d1, 6, .inl (fun _ => 0))), (a2, .inl (d2, 6, .inl (fun _ => 0)))] := hD
  have hK : va_K D vwCl [(d1, .byte), (d2, .byte)] s := hK
  refine va_putF (D := D) (ci := 0) (v := .ref a2) (ty := .array .byte) (C := RX0) (T := TX0) (N := 19) hx hb hts in_X0 tyX0 tyX0_ok nmX0 hown hK hP hD hS 0 rfl rfl 2 (by decide) (hts _ q43) (fun _ h9 => h9) rfl hin rfl (by decide +kernel) rfl rfl (Nat.le_of_ble_eq_true rfl) dX0_init_17 (fun H locs hP hD hS => ?_)
  have hP : va_P D vwCl [(h0, .inr (0, [.int 0, .ref a1, .ref a2, .null, .null, .null, .int 0, .int 0, .null, .int 0, .null, .int 0, .null, .null, .int 0, .int 0, .null, .null, .null])), (a1, .inl (d1, 6, .inl (fun _ => 0))), (a2, .inl (d2, 6, .inl (fun _ => 0)))] H := hP
  have hD : va_D A [(h0, .inr (0, [.int 0, .ref a1, .ref a2, .null, .null, .null, .int 0, .int 0, .null, .int 0, .null, .int 0, .null, .null, .int 0, .int 0, .null, .null, .null])), (a1, .inl (d1, 6, .inl (fun _ => 0))), (a2, .inl (d2, 6, .inl (fun _ => 0)))] := hD
  refine lv_aload_n hx hb dX0_init_20 rfl (lv_at hl 0 rfl) ?_
  refine lv_bipush (v := nI 6) hx hb dX0_init_21 (by decide) ?_
  refine va_newa (atype := .byte) (a0 := (6, .inl (fun _ => 0))) (N' := 6) (ty := .byte) hx hb (hts _ q99) rfl hK hP hD hS hA (fun _ => rfl) (by decide +kernel) (by decide +kernel) (by decide) (Nat.le_of_ble_eq_true rfl) (Nat.le_of_ble_eq_true rfl) dX0_init_23 (fun a3 d3 H hK hP hD hS => ?_)
  have hP : va_P D vwCl [(h0, .inr (0, [.int 0, .ref a1, .ref a2, .null, .null, .null, .int 0, .int 0, .null, .int 0, .null, .int 0, .null, .null, .int 0, .int 0, .null, .null, .null])), (a1, .inl (d1, 6, .inl (fun _ => 0))), (a2, .inl (d2, 6, .inl (fun _ => 0))), (a3, .inl (d3, 6, .inl (fun _ => 0)))] H := hP
  have hD : va_D A [(h0, .inr (0, [.int 0, .ref a1, .ref a2, .null, .null, .null, .int 0, .int 0, .null, .int 0, .null, .int 0, .null, .null, .int 0, .int 0, .null, .null, .null])), (a1, .inl (d1, 6, .inl (fun _ => 0))), (a2, .inl (d2, 6, .inl (fun _ => 0))), (a3, .inl (d3, 6, .inl (fun _ => 0)))] := hD
  have hK : va_K D vwCl [(d1, .byte), (d2, .byte), (d3, .byte)] s := hK
  refine va_putF (D := D) (ci := 0) (v := .ref a3) (ty := .array .byte) (C := RX0) (T := TX0) (N := 19) hx hb hts in_X0 tyX0 tyX0_ok nmX0 hown hK hP hD hS 0 rfl rfl 3 (by decide) (hts _ q44) (fun _ h9 => h9) rfl hin rfl (by decide +kernel) rfl rfl (Nat.le_of_ble_eq_true rfl) dX0_init_25 (fun H locs hP hD hS => ?_)
  have hP : va_P D vwCl [(h0, .inr (0, [.int 0, .ref a1, .ref a2, .ref a3, .null, .null, .int 0, .int 0, .null, .int 0, .null, .int 0, .null, .null, .int 0, .int 0, .null, .null, .null])), (a1, .inl (d1, 6, .inl (fun _ => 0))), (a2, .inl (d2, 6, .inl (fun _ => 0))), (a3, .inl (d3, 6, .inl (fun _ => 0)))] H := hP
  have hD : va_D A [(h0, .inr (0, [.int 0, .ref a1, .ref a2, .ref a3, .null, .null, .int 0, .int 0, .null, .int 0, .null, .int 0, .null, .null, .int 0, .int 0, .null, .null, .null])), (a1, .inl (d1, 6, .inl (fun _ => 0))), (a2, .inl (d2, 6, .inl (fun _ => 0))), (a3, .inl (d3, 6, .inl (fun _ => 0)))] := hD
  refine lv_aload_n hx hb dX0_init_28 rfl (lv_at hl 0 rfl) ?_
  refine lv_bipush (v := nI 6) hx hb dX0_init_29 (by decide) ?_
  refine va_newa (atype := .byte) (a0 := (6, .inl (fun _ => 0))) (N' := 6) (ty := .byte) hx hb (hts _ q99) rfl hK hP hD hS hA (fun _ => rfl) (by decide +kernel) (by decide +kernel) (by decide) (Nat.le_of_ble_eq_true rfl) (Nat.le_of_ble_eq_true rfl) dX0_init_31 (fun a4 d4 H hK hP hD hS => ?_)
  have hP : va_P D vwCl [(h0, .inr (0, [.int 0, .ref a1, .ref a2, .ref a3, .null, .null, .int 0, .int 0, .null, .int 0, .null, .int 0, .null, .null, .int 0, .int 0, .null, .null, .null])), (a1, .inl (d1, 6, .inl (fun _ => 0))), (a2, .inl (d2, 6, .inl (fun _ => 0))), (a3, .inl (d3, 6, .inl (fun _ => 0))), (a4, .inl (d4, 6, .inl (fun _ => 0)))] H := hP
  have hD : va_D A [(h0, .inr (0, [.int 0, .ref a1, .ref a2, .ref a3, .null, .null, .int 0, .int 0, .null, .int 0, .null, .int 0, .null, .null, .int 0, .int 0, .null, .null, .null])), (a1, .inl (d1, 6, .inl (fun _ => 0))), (a2, .inl (d2, 6, .inl (fun _ => 0))), (a3, .inl (d3, 6, .inl (fun _ => 0))), (a4, .inl (d4, 6, .inl (fun _ => 0)))] := hD
  have hK : va_K D vwCl [(d1, .byte), (d2, .byte), (d3, .byte), (d4, .byte)] s := hK
  refine va_putF (D := D) (ci := 0) (v := .ref a4) (ty := .array .byte) (C := RX0) (T := TX0) (N := 19) hx hb hts in_X0 tyX0 tyX0_ok nmX0 hown hK hP hD hS 0 rfl rfl 4 (by decide) (hts _ q45) (fun _ h9 => h9) rfl hin rfl (by decide +kernel) rfl rfl (Nat.le_of_ble_eq_true rfl) dX0_init_33 (fun H locs hP hD hS => ?_)
  have hP : va_P D vwCl [(h0, .inr (0, [.int 0, .ref a1, .ref a2, .ref a3, .ref a4, .null, .int 0, .int 0, .null, .int 0, .null, .int 0, .null, .null, .int 0, .int 0, .null, .null, .null])), (a1, .inl (d1, 6, .inl (fun _ => 0))), (a2, .inl (d2, 6, .inl (fun _ => 0))), (a3, .inl (d3, 6, .inl (fun _ => 0))), (a4, .inl (d4, 6, .inl (fun _ => 0)))] H := hP
  have hD : va_D A [(h0, .inr (0, [.int 0, .ref a1, .ref a2, .ref a3, .ref a4, .null, .int 0, .int 0, .null, .int 0, .null, .int 0, .null, .null, .int 0, .int 0, .null, .null, .null])), (a1, .inl (d1, 6, .inl (fun _ => 0))), (a2, .inl (d2, 6, .inl (fun _ => 0))), (a3, .inl (d3, 6, .inl (fun _ => 0))), (a4, .inl (d4, 6, .inl (fun _ => 0)))] := hD
  refine lv_aload_n hx hb dX0_init_36 rfl (lv_at hl 0 rfl) ?_
  refine lv_bipush (v := nI 6) hx hb dX0_init_37 (by decide) ?_
  refine va_newa (atype := .byte) (a0 := (6, .inl (fun _ => 0))) (N' := 6) (ty := .byte) hx hb (hts _ q99) rfl hK hP hD hS hA (fun _ => rfl) (by decide +kernel) (by decide +kernel) (by decide) (Nat.le_of_ble_eq_true rfl) (Nat.le_of_ble_eq_true rfl) dX0_init_39 (fun a5 d5 H hK hP hD hS => ?_)
  have hP : va_P D vwCl [(h0, .inr (0, [.int 0, .ref a1, .ref a2, .ref a3, .ref a4, .null, .int 0, .int 0, .null, .int 0, .null, .int 0, .null, .null, .int 0, .int 0, .null, .null, .null])), (a1, .inl (d1, 6, .inl (fun _ => 0))), (a2, .inl (d2, 6, .inl (fun _ => 0))), (a3, .inl (d3, 6, .inl (fun _ => 0))), (a4, .inl (d4, 6, .inl (fun _ => 0))), (a5, .inl (d5, 6, .inl (fun _ => 0)))] H := hP
  have hD : va_D A [(h0, .inr (0, [.int 0, .ref a1, .ref a2, .ref a3, .ref a4, .null, .int 0, .int 0, .null, .int 0, .null, .int 0, .null, .null, .int 0, .int 0, .null, .null, .null])), (a1, .inl (d1, 6, .inl (fun _ => 0))), (a2, .inl (d2, 6, .inl (fun _ => 0))), (a3, .inl (d3, 6, .inl (fun _ => 0))), (a4, .inl (d4, 6, .inl (fun _ => 0))), (a5, .inl (d5, 6, .inl (fun _ => 0)))] := hD
  have hK : va_K D vwCl [(d1, .byte), (d2, .byte), (d3, .byte), (d4, .byte), (d5, .byte)] s := hK
  refine va_putF (D := D) (ci := 0) (v := .ref a5) (ty := .array .byte) (C := RX0) (T := TX0) (N := 19) hx hb hts in_X0 tyX0 tyX0_ok nmX0 hown hK hP hD hS 0 rfl rfl 5 (by decide) (hts _ q46) (fun _ h9 => h9) rfl hin rfl (by decide +kernel) rfl rfl (Nat.le_of_ble_eq_true rfl) dX0_init_41 (fun H locs hP hD hS => ?_)
  have hP : va_P D vwCl [(h0, .inr (0, [.int 0, .ref a1, .ref a2, .ref a3, .ref a4, .ref a5, .int 0, .int 0, .null, .int 0, .null, .int 0, .null, .null, .int 0, .int 0, .null, .null, .null])), (a1, .inl (d1, 6, .inl (fun _ => 0))), (a2, .inl (d2, 6, .inl (fun _ => 0))), (a3, .inl (d3, 6, .inl (fun _ => 0))), (a4, .inl (d4, 6, .inl (fun _ => 0))), (a5, .inl (d5, 6, .inl (fun _ => 0)))] H := hP
  have hD : va_D A [(h0, .inr (0, [.int 0, .ref a1, .ref a2, .ref a3, .ref a4, .ref a5, .int 0, .int 0, .null, .int 0, .null, .int 0, .null, .null, .int 0, .int 0, .null, .null, .null])), (a1, .inl (d1, 6, .inl (fun _ => 0))), (a2, .inl (d2, 6, .inl (fun _ => 0))), (a3, .inl (d3, 6, .inl (fun _ => 0))), (a4, .inl (d4, 6, .inl (fun _ => 0))), (a5, .inl (d5, 6, .inl (fun _ => 0)))] := hD
  refine lv_aload_n hx hb dX0_init_44 rfl (lv_at hl 0 rfl) ?_
  refine lv_bipush (v := nI 24) hx hb dX0_init_45 (by decide) ?_
  refine va_newa (atype := .byte) (a0 := (24, .inl (fun _ => 0))) (N' := 24) (ty := .byte) hx hb (hts _ q99) rfl hK hP hD hS hA (fun _ => rfl) (by decide +kernel) (by decide +kernel) (by decide) (Nat.le_of_ble_eq_true rfl) (Nat.le_of_ble_eq_true rfl) dX0_init_47 (fun a8 d8 H hK hP hD hS => ?_)
  have hP : va_P D vwCl [(h0, .inr (0, [.int 0, .ref a1, .ref a2, .ref a3, .ref a4, .ref a5, .int 0, .int 0, .null, .int 0, .null, .int 0, .null, .null, .int 0, .int 0, .null, .null, .null])), (a1, .inl (d1, 6, .inl (fun _ => 0))), (a2, .inl (d2, 6, .inl (fun _ => 0))), (a3, .inl (d3, 6, .inl (fun _ => 0))), (a4, .inl (d4, 6, .inl (fun _ => 0))), (a5, .inl (d5, 6, .inl (fun _ => 0))), (a8, .inl (d8, 24, .inl (fun _ => 0)))] H := hP
  have hD : va_D A [(h0, .inr (0, [.int 0, .ref a1, .ref a2, .ref a3, .ref a4, .ref a5, .int 0, .int 0, .null, .int 0, .null, .int 0, .null, .null, .int 0, .int 0, .null, .null, .null])), (a1, .inl (d1, 6, .inl (fun _ => 0))), (a2, .inl (d2, 6, .inl (fun _ => 0))), (a3, .inl (d3, 6, .inl (fun _ => 0))), (a4, .inl (d4, 6, .inl (fun _ => 0))), (a5, .inl (d5, 6, .inl (fun _ => 0))), (a8, .inl (d8, 24, .inl (fun _ => 0)))] := hD
  have hK : va_K D vwCl [(d1, .byte), (d2, .byte), (d3, .byte), (d4, .byte), (d5, .byte), (d8, .byte)] s := hK
  refine va_putF (D := D) (ci := 0) (v := .ref a8) (ty := .array .byte) (C := RX0) (T := TX0) (N := 19) hx hb hts in_X0 tyX0 tyX0_ok nmX0 hown hK hP hD hS 0 rfl rfl 8 (by decide) (hts _ q49) (fun _ h9 => h9) rfl hin rfl (by decide +kernel) rfl rfl (Nat.le_of_ble_eq_true rfl) dX0_init_49 (fun H locs hP hD hS => ?_)
  have hP : va_P D vwCl [(h0, .inr (0, [.int 0, .ref a1, .ref a2, .ref a3, .ref a4, .ref a5, .int 0, .int 0, .ref a8, .int 0, .null, .int 0, .null, .null, .int 0, .int 0, .null, .null, .null])), (a1, .inl (d1, 6, .inl (fun _ => 0))), (a2, .inl (d2, 6, .inl (fun _ => 0))), (a3, .inl (d3, 6, .inl (fun _ => 0))), (a4, .inl (d4, 6, .inl (fun _ => 0))), (a5, .inl (d5, 6, .inl (fun _ => 0))), (a8, .inl (d8, 24, .inl (fun _ => 0)))] H := hP
  have hD : va_D A [(h0, .inr (0, [.int 0, .ref a1, .ref a2, .ref a3, .ref a4, .ref a5, .int 0, .int 0, .ref a8, .int 0, .null, .int 0, .null, .null, .int 0, .int 0, .null, .null, .null])), (a1, .inl (d1, 6, .inl (fun _ => 0))), (a2, .inl (d2, 6, .inl (fun _ => 0))), (a3, .inl (d3, 6, .inl (fun _ => 0))), (a4, .inl (d4, 6, .inl (fun _ => 0))), (a5, .inl (d5, 6, .inl (fun _ => 0))), (a8, .inl (d8, 24, .inl (fun _ => 0)))] := hD
  refine lv_aload_n hx hb dX0_init_52 rfl (lv_at hl 0 rfl) ?_
  refine lv_bipush (v := nI 8) hx hb dX0_init_53 (by decide) ?_
  refine va_newa (atype := .byte) (a0 := (8, .inl (fun _ => 0))) (N' := 8) (ty := .byte) hx hb (hts _ q99) rfl hK hP hD hS hA (fun _ => rfl) (by decide +kernel) (by decide +kernel) (by decide) (Nat.le_of_ble_eq_true rfl) (Nat.le_of_ble_eq_true rfl) dX0_init_55 (fun a10 d10 H hK hP hD hS => ?_)
  have hP : va_P D vwCl [(h0, .inr (0, [.int 0, .ref a1, .ref a2, .ref a3, .ref a4, .ref a5, .int 0, .int 0, .ref a8, .int 0, .null, .int 0, .null, .null, .int 0, .int 0, .null, .null, .null])), (a1, .inl (d1, 6, .inl (fun _ => 0))), (a2, .inl (d2, 6, .inl (fun _ => 0))), (a3, .inl (d3, 6, .inl (fun _ => 0))), (a4, .inl (d4, 6, .inl (fun _ => 0))), (a5, .inl (d5, 6, .inl (fun _ => 0))), (a8, .inl (d8, 24, .inl (fun _ => 0))), (a10, .inl (d10, 8, .inl (fun _ => 0)))] H := hP
  have hD : va_D A [(h0, .inr (0, [.int 0, .ref a1, .ref a2, .ref a3, .ref a4, .ref a5, .int 0, .int 0, .ref a8, .int 0, .null, .int 0, .null, .null, .int 0, .int 0, .null, .null, .null])), (a1, .inl (d1, 6, .inl (fun _ => 0))), (a2, .inl (d2, 6, .inl (fun _ => 0))), (a3, .inl (d3, 6, .inl (fun _ => 0))), (a4, .inl (d4, 6, .inl (fun _ => 0))), (a5, .inl (d5, 6, .inl (fun _ => 0))), (a8, .inl (d8, 24, .inl (fun _ => 0))), (a10, .inl (d10, 8, .inl (fun _ => 0)))] := hD
  have hK : va_K D vwCl [(d1, .byte), (d2, .byte), (d3, .byte), (d4, .byte), (d5, .byte), (d8, .byte), (d10, .byte)] s := hK
  refine va_putF (D := D) (ci := 0) (v := .ref a10) (ty := .array .byte) (C := RX0) (T := TX0) (N := 19) hx hb hts in_X0 tyX0 tyX0_ok nmX0 hown hK hP hD hS 0 rfl rfl 10 (by decide) (hts _ q51) (fun _ h9 => h9) rfl hin rfl (by decide +kernel) rfl rfl (Nat.le_of_ble_eq_true rfl) dX0_init_57 (fun H locs hP hD hS => ?_)
  have hP : va_P D vwCl [(h0, .inr (0, [.int 0, .ref a1, .ref a2, .ref a3, .ref a4, .ref a5, .int 0, .int 0, .ref a8, .int 0, .ref a10, .int 0, .null, .null, .int 0, .int 0, .null, .null, .null])), (a1, .inl (d1, 6, .inl (fun _ => 0))), (a2, .inl (d2, 6, .inl (fun _ => 0))), (a3, .inl (d3, 6, .inl (fun _ => 0))), (a4, .inl (d4, 6, .inl (fun _ => 0))), (a5, .inl (d5, 6, .inl (fun _ => 0))), (a8, .inl (d8, 24, .inl (fun _ => 0))), (a10, .inl (d10, 8, .inl (fun _ => 0)))] H := hP
  have hD : va_D A [(h0, .inr (0, [.int 0, .ref a1, .ref a2, .ref a3, .ref a4, .ref a5, .int 0, .int 0, .ref a8, .int 0, .ref a10, .int 0, .null, .null, .int 0, .int 0, .null, .null, .null])), (a1, .inl (d1, 6, .inl (fun _ => 0))), (a2, .inl (d2, 6, .inl (fun _ => 0))), (a3, .inl (d3, 6, .inl (fun _ => 0))), (a4, .inl (d4, 6, .inl (fun _ => 0))), (a5, .inl (d5, 6, .inl (fun _ => 0))), (a8, .inl (d8, 24, .inl (fun _ => 0))), (a10, .inl (d10, 8, .inl (fun _ => 0)))] := hD
  refine lv_aload_n hx hb dX0_init_60 rfl (lv_at hl 0 rfl) ?_
  refine lv_bipush (v := nI 6) hx hb dX0_init_61 (by decide) ?_
  refine va_newa (atype := .byte) (a0 := (6, .inl (fun _ => 0))) (N' := 6) (ty := .byte) hx hb (hts _ q99) rfl hK hP hD hS hA (fun _ => rfl) (by decide +kernel) (by decide +kernel) (by decide) (Nat.le_of_ble_eq_true rfl) (Nat.le_of_ble_eq_true rfl) dX0_init_63 (fun a12 d12 H hK hP hD hS => ?_)
  have hP : va_P D vwCl [(h0, .inr (0, [.int 0, .ref a1, .ref a2, .ref a3, .ref a4, .ref a5, .int 0, .int 0, .ref a8, .int 0, .ref a10, .int 0, .null, .null, .int 0, .int 0, .null, .null, .null])), (a1, .inl (d1, 6, .inl (fun _ => 0))), (a2, .inl (d2, 6, .inl (fun _ => 0))), (a3, .inl (d3, 6, .inl (fun _ => 0))), (a4, .inl (d4, 6, .inl (fun _ => 0))), (a5, .inl (d5, 6, .inl (fun _ => 0))), (a8, .inl (d8, 24, .inl (fun _ => 0))), (a10, .inl (d10, 8, .inl (fun _ => 0))), (a12, .inl (d12, 6, .inl (fun _ => 0)))] H := hP
  have hD : va_D A [(h0, .inr (0, [.int 0, .ref a1, .ref a2, .ref a3, .ref a4, .ref a5, .int 0, .int 0, .ref a8, .int 0, .ref a10, .int 0, .null, .null, .int 0, .int 0, .null, .null, .null])), (a1, .inl (d1, 6, .inl (fun _ => 0))), (a2, .inl (d2, 6, .inl (fun _ => 0))), (a3, .inl (d3, 6, .inl (fun _ => 0))), (a4, .inl (d4, 6, .inl (fun _ => 0))), (a5, .inl (d5, 6, .inl (fun _ => 0))), (a8, .inl (d8, 24, .inl (fun _ => 0))), (a10, .inl (d10, 8, .inl (fun _ => 0))), (a12, .inl (d12, 6, .inl (fun _ => 0)))] := hD
  have hK : va_K D vwCl [(d1, .byte), (d2, .byte), (d3, .byte), (d4, .byte), (d5, .byte), (d8, .byte), (d10, .byte), (d12, .byte)] s := hK
  refine va_putF (D := D) (ci := 0) (v := .ref a12) (ty := .array .byte) (C := RX0) (T := TX0) (N := 19) hx hb hts in_X0 tyX0 tyX0_ok nmX0 hown hK hP hD hS 0 rfl rfl 12 (by decide) (hts _ q53) (fun _ h9 => h9) rfl hin rfl (by decide +kernel) rfl rfl (Nat.le_of_ble_eq_true rfl) dX0_init_65 (fun H locs hP hD hS => ?_)
  have hP : va_P D vwCl [(h0, .inr (0, [.int 0, .ref a1, .ref a2, .ref a3, .ref a4, .ref a5, .int 0, .int 0, .ref a8, .int 0, .ref a10, .int 0, .ref a12, .null, .int 0, .int 0, .null, .null, .null])), (a1, .inl (d1, 6, .inl (fun _ => 0))), (a2, .inl (d2, 6, .inl (fun _ => 0))), (a3, .inl (d3, 6, .inl (fun _ => 0))), (a4, .inl (d4, 6, .inl (fun _ => 0))), (a5, .inl (d5, 6, .inl (fun _ => 0))), (a8, .inl (d8, 24, .inl (fun _ => 0))), (a10, .inl (d10, 8, .inl (fun _ => 0))), (a12, .inl (d12, 6, .inl (fun _ => 0)))] H := hP
  have hD : va_D A [(h0, .inr (0, [.int 0, .ref a1, .ref a2, .ref a3, .ref a4, .ref a5, .int 0, .int 0, .ref a8, .int 0, .ref a10, .int 0, .ref a12, .null, .int 0, .int 0, .null, .null, .null])), (a1, .inl (d1, 6, .inl (fun _ => 0))), (a2, .inl (d2, 6, .inl (fun _ => 0))), (a3, .inl (d3, 6, .inl (fun _ => 0))), (a4, .inl (d4, 6, .inl (fun _ => 0))), (a5, .inl (d5, 6, .inl (fun _ => 0))), (a8, .inl (d8, 24, .inl (fun _ => 0))), (a10, .inl (d10, 8, .inl (fun _ => 0))), (a12, .inl (d12, 6, .inl (fun _ => 0)))] := hD
  refine lv_aload_n hx hb dX0_init_68 rfl (lv_at hl 0 rfl) ?_
  refine lv_bipush (v := nI 6) hx hb dX0_init_69 (by decide) ?_
  refine va_newa (atype := .byte) (a0 := (6, .inl (fun _ => 0))) (N' := 6) (ty := .byte) hx hb (hts _ q99) rfl hK hP hD hS hA (fun _ => rfl) (by decide +kernel) (by decide +kernel) (by decide) (Nat.le_of_ble_eq_true rfl) (Nat.le_of_ble_eq_true rfl) dX0_init_71 (fun a13 d13 H hK hP hD hS => ?_)
  have hP : va_P D vwCl [(h0, .inr (0, [.int 0, .ref a1, .ref a2, .ref a3, .ref a4, .ref a5, .int 0, .int 0, .ref a8, .int 0, .ref a10, .int 0, .ref a12, .null, .int 0, .int 0, .null, .null, .null])), (a1, .inl (d1, 6, .inl (fun _ => 0))), (a2, .inl (d2, 6, .inl (fun _ => 0))), (a3, .inl (d3, 6, .inl (fun _ => 0))), (a4, .inl (d4, 6, .inl (fun _ => 0))), (a5, .inl (d5, 6, .inl (fun _ => 0))), (a8, .inl (d8, 24, .inl (fun _ => 0))), (a10, .inl (d10, 8, .inl (fun _ => 0))), (a12, .inl (d12, 6, .inl (fun _ => 0))), (a13, .inl (d13, 6, .inl (fun _ => 0)))] H := hP
  have hD : va_D A [(h0, .inr (0, [.int 0, .ref a1, .ref a2, .ref a3, .ref a4, .ref a5, .int 0, .int 0, .ref a8, .int 0, .ref a10, .int 0, .ref a12, .null, .int 0, .int 0, .null, .null, .null])), (a1, .inl (d1, 6, .inl (fun _ => 0))), (a2, .inl (d2, 6, .inl (fun _ => 0))), (a3, .inl (d3, 6, .inl (fun _ => 0))), (a4, .inl (d4, 6, .inl (fun _ => 0))), (a5, .inl (d5, 6, .inl (fun _ => 0))), (a8, .inl (d8, 24, .inl (fun _ => 0))), (a10, .inl (d10, 8, .inl (fun _ => 0))), (a12, .inl (d12, 6, .inl (fun _ => 0))), (a13, .inl (d13, 6, .inl (fun _ => 0)))] := hD
  have hK : va_K D vwCl [(d1, .byte), (d2, .byte), (d3, .byte), (d4, .byte), (d5, .byte), (d8, .byte), (d10, .byte), (d12, .byte), (d13, .byte)] s := hK
  refine va_putF (D := D) (ci := 0) (v := .ref a13) (ty := .array .byte) (C := RX0) (T := TX0) (N := 19) hx hb hts in_X0 tyX0 tyX0_ok nmX0 hown hK hP hD hS 0 rfl rfl 13 (by decide) (hts _ q54) (fun _ h9 => h9) rfl hin rfl (by decide +kernel) rfl rfl (Nat.le_of_ble_eq_true rfl) dX0_init_73 (fun H locs hP hD hS => ?_)
  have hP : va_P D vwCl [(h0, .inr (0, [.int 0, .ref a1, .ref a2, .ref a3, .ref a4, .ref a5, .int 0, .int 0, .ref a8, .int 0, .ref a10, .int 0, .ref a12, .ref a13, .int 0, .int 0, .null, .null, .null])), (a1, .inl (d1, 6, .inl (fun _ => 0))), (a2, .inl (d2, 6, .inl (fun _ => 0))), (a3, .inl (d3, 6, .inl (fun _ => 0))), (a4, .inl (d4, 6, .inl (fun _ => 0))), (a5, .inl (d5, 6, .inl (fun _ => 0))), (a8, .inl (d8, 24, .inl (fun _ => 0))), (a10, .inl (d10, 8, .inl (fun _ => 0))), (a12, .inl (d12, 6, .inl (fun _ => 0))), (a13, .inl (d13, 6, .inl (fun _ => 0)))] H := hP
  have hD : va_D A [(h0, .inr (0, [.int 0, .ref a1, .ref a2, .ref a3, .ref a4, .ref a5, .int 0, .int 0, .ref a8, .int 0, .ref a10, .int 0, .ref a12, .ref a13, .int 0, .int 0, .null, .null, .null])), (a1, .inl (d1, 6, .inl (fun _ => 0))), (a2, .inl (d2, 6, .inl (fun _ => 0))), (a3, .inl (d3, 6, .inl (fun _ => 0))), (a4, .inl (d4, 6, .inl (fun _ => 0))), (a5, .inl (d5, 6, .inl (fun _ => 0))), (a8, .inl (d8, 24, .inl (fun _ => 0))), (a10, .inl (d10, 8, .inl (fun _ => 0))), (a12, .inl (d12, 6, .inl (fun _ => 0))), (a13, .inl (d13, 6, .inl (fun _ => 0)))] := hD
  refine lv_aload_n hx hb dX0_init_76 rfl (lv_at hl 0 rfl) ?_
  refine lv_bipush (v := nI 6) hx hb dX0_init_77 (by decide) ?_
  refine va_newa (atype := .byte) (a0 := (6, .inl (fun _ => 0))) (N' := 6) (ty := .byte) hx hb (hts _ q99) rfl hK hP hD hS hA (fun _ => rfl) (by decide +kernel) (by decide +kernel) (by decide) (Nat.le_of_ble_eq_true rfl) (Nat.le_of_ble_eq_true rfl) dX0_init_79 (fun a16 d16 H hK hP hD hS => ?_)
  have hP : va_P D vwCl [(h0, .inr (0, [.int 0, .ref a1, .ref a2, .ref a3, .ref a4, .ref a5, .int 0, .int 0, .ref a8, .int 0, .ref a10, .int 0, .ref a12, .ref a13, .int 0, .int 0, .null, .null, .null])), (a1, .inl (d1, 6, .inl (fun _ => 0))), (a2, .inl (d2, 6, .inl (fun _ => 0))), (a3, .inl (d3, 6, .inl (fun _ => 0))), (a4, .inl (d4, 6, .inl (fun _ => 0))), (a5, .inl (d5, 6, .inl (fun _ => 0))), (a8, .inl (d8, 24, .inl (fun _ => 0))), (a10, .inl (d10, 8, .inl (fun _ => 0))), (a12, .inl (d12, 6, .inl (fun _ => 0))), (a13, .inl (d13, 6, .inl (fun _ => 0))), (a16, .inl (d16, 6, .inl (fun _ => 0)))] H := hP
  have hD : va_D A [(h0, .inr (0, [.int 0, .ref a1, .ref a2, .ref a3, .ref a4, .ref a5, .int 0, .int 0, .ref a8, .int 0, .ref a10, .int 0, .ref a12, .ref a13, .int 0, .int 0, .null, .null, .null])), (a1, .inl (d1, 6, .inl (fun _ => 0))), (a2, .inl (d2, 6, .inl (fun _ => 0))), (a3, .inl (d3, 6, .inl (fun _ => 0))), (a4, .inl (d4, 6, .inl (fun _ => 0))), (a5, .inl (d5, 6, .inl (fun _ => 0))), (a8, .inl (d8, 24, .inl (fun _ => 0))), (a10, .inl (d10, 8, .inl (fun _ => 0))), (a12, .inl (d12, 6, .inl (fun _ => 0))), (a13, .inl (d13, 6, .inl (fun _ => 0))), (a16, .inl (d16, 6, .inl (fun _ => 0)))] := hD
  have hK : va_K D vwCl [(d1, .byte), (d2, .byte), (d3, .byte), (d4, .byte), (d5, .byte), (d8, .byte), (d10, .byte), (d12, .byte), (d13, .byte), (d16, .byte)] s := hK
  refine va_putF (D := D) (ci := 0) (v := .ref a16) (ty := .array .byte) (C := RX0) (T := TX0) (N := 19) hx hb hts in_X0 tyX0 tyX0_ok nmX0 hown hK hP hD hS 0 rfl rfl 16 (by decide) (hts _ q57) (fun _ h9 => h9) rfl hin rfl (by decide +kernel) rfl rfl (Nat.le_of_ble_eq_true rfl) dX0_init_81 (fun H locs hP hD hS => ?_)
  have hP : va_P D vwCl [(h0, .inr (0, [.int 0, .ref a1, .ref a2, .ref a3, .ref a4, .ref a5, .int 0, .int 0, .ref a8, .int 0, .ref a10, .int 0, .ref a12, .ref a13, .int 0, .int 0, .ref a16, .null, .null])), (a1, .inl (d1, 6, .inl (fun _ => 0))), (a2, .inl (d2, 6, .inl (fun _ => 0))), (a3, .inl (d3, 6, .inl (fun _ => 0))), (a4, .inl (d4, 6, .inl (fun _ => 0))), (a5, .inl (d5, 6, .inl (fun _ => 0))), (a8, .inl (d8, 24, .inl (fun _ => 0))), (a10, .inl (d10, 8, .inl (fun _ => 0))), (a12, .inl (d12, 6, .inl (fun _ => 0))), (a13, .inl (d13, 6, .inl (fun _ => 0))), (a16, .inl (d16, 6, .inl (fun _ => 0)))] H := hP
  have hD : va_D A [(h0, .inr (0, [.int 0, .ref a1, .ref a2, .ref a3, .ref a4, .ref a5, .int 0, .int 0, .ref a8, .int 0, .ref a10, .int 0, .ref a12, .ref a13, .int 0, .int 0, .ref a16, .null, .null])), (a1, .inl (d1, 6, .inl (fun _ => 0))), (a2, .inl (d2, 6, .inl (fun _ => 0))), (a3, .inl (d3, 6, .inl (fun _ => 0))), (a4, .inl (d4, 6, .inl (fun _ => 0))), (a5, .inl (d5, 6, .inl (fun _ => 0))), (a8, .inl (d8, 24, .inl (fun _ => 0))), (a10, .inl (d10, 8, .inl (fun _ => 0))), (a12, .inl (d12, 6, .inl (fun _ => 0))), (a13, .inl (d13, 6, .inl (fun _ => 0))), (a16, .inl (d16, 6, .inl (fun _ => 0)))] := hD
  refine lv_aload_n hx hb dX0_init_84 rfl (lv_at hl 0 rfl) ?_
  refine lv_bipush (v := nI 24) hx hb dX0_init_85 (by decide) ?_
  refine va_newa (atype := .byte) (a0 := (24, .inl (fun _ => 0))) (N' := 24) (ty := .byte) hx hb (hts _ q99) rfl hK hP hD hS hA (fun _ => rfl) (by decide +kernel) (by decide +kernel) (by decide) (Nat.le_of_ble_eq_true rfl) (Nat.le_of_ble_eq_true rfl) dX0_init_87 (fun a17 d17 H hK hP hD hS => ?_)
  have hP : va_P D vwCl [(h0, .inr (0, [.int 0, .ref a1, .ref a2, .ref a3, .ref a4, .ref a5, .int 0, .int 0, .ref a8, .int 0, .ref a10, .int 0, .ref a12, .ref a13, .int 0, .int 0, .ref a16, .null, .null])), (a1, .inl (d1, 6, .inl (fun _ => 0))), (a2, .inl (d2, 6, .inl (fun _ => 0))), (a3, .inl (d3, 6, .inl (fun _ => 0))), (a4, .inl (d4, 6, .inl (fun _ => 0))), (a5, .inl (d5, 6, .inl (fun _ => 0))), (a8, .inl (d8, 24, .inl (fun _ => 0))), (a10, .inl (d10, 8, .inl (fun _ => 0))), (a12, .inl (d12, 6, .inl (fun _ => 0))), (a13, .inl (d13, 6, .inl (fun _ => 0))), (a16, .inl (d16, 6, .inl (fun _ => 0))), (a17, .inl (d17, 24, .inl (fun _ => 0)))] H := hP
  have hD : va_D A [(h0, .inr (0, [.int 0, .ref a1, .ref a2, .ref a3, .ref a4, .ref a5, .int 0, .int 0, .ref a8, .int 0, .ref a10, .int 0, .ref a12, .ref a13, .int 0, .int 0, .ref a16, .null, .null])), (a1, .inl (d1, 6, .inl (fun _ => 0))), (a2, .inl (d2, 6, .inl (fun _ => 0))), (a3, .inl (d3, 6, .inl (fun _ => 0))), (a4, .inl (d4, 6, .inl (fun _ => 0))), (a5, .inl (d5, 6, .inl (fun _ => 0))), (a8, .inl (d8, 24, .inl (fun _ => 0))), (a10, .inl (d10, 8, .inl (fun _ => 0))), (a12, .inl (d12, 6, .inl (fun _ => 0))), (a13, .inl (d13, 6, .inl (fun _ => 0))), (a16, .inl (d16, 6, .inl (fun _ => 0))), (a17, .inl (d17, 24, .inl (fun _ => 0)))] := hD
  have hK : va_K D vwCl [(d1, .byte), (d2, .byte), (d3, .byte), (d4, .byte), (d5, .byte), (d8, .byte), (d10, .byte), (d12, .byte), (d13, .byte), (d16, .byte), (d17, .byte)] s := hK
  refine va_putF (D := D) (ci := 0) (v := .ref a17) (ty := .array .byte) (C := RX0) (T := TX0) (N := 19) hx hb hts in_X0 tyX0 tyX0_ok nmX0 hown hK hP hD hS 0 rfl rfl 17 (by decide) (hts _ q58) (fun _ h9 => h9) rfl hin rfl (by decide +kernel) rfl rfl (Nat.le_of_ble_eq_true rfl) dX0_init_89 (fun H locs hP hD hS => ?_)
  have hP : va_P D vwCl [(h0, .inr (0, [.int 0, .ref a1, .ref a2, .ref a3, .ref a4, .ref a5, .int 0, .int 0, .ref a8, .int 0, .ref a10, .int 0, .ref a12, .ref a13, .int 0, .int 0, .ref a16, .ref a17, .null])), (a1, .inl (d1, 6, .inl (fun _ => 0))), (a2, .inl (d2, 6, .inl (fun _ => 0))), (a3, .inl (d3, 6, .inl (fun _ => 0))), (a4, .inl (d4, 6, .inl (fun _ => 0))), (a5, .inl (d5, 6, .inl (fun _ => 0))), (a8, .inl (d8, 24, .inl (fun _ => 0))), (a10, .inl (d10, 8, .inl (fun _ => 0))), (a12, .inl (d12, 6, .inl (fun _ => 0))), (a13, .inl (d13, 6, .inl (fun _ => 0))), (a16, .inl (d16, 6, .inl (fun _ => 0))), (a17, .inl (d17, 24, .inl (fun _ => 0)))] H := hP
  have hD : va_D A [(h0, .inr (0, [.int 0, .ref a1, .ref a2, .ref a3, .ref a4, .ref a5, .int 0, .int 0, .ref a8, .int 0, .ref a10, .int 0, .ref a12, .ref a13, .int 0, .int 0, .ref a16, .ref a17, .null])), (a1, .inl (d1, 6, .inl (fun _ => 0))), (a2, .inl (d2, 6, .inl (fun _ => 0))), (a3, .inl (d3, 6, .inl (fun _ => 0))), (a4, .inl (d4, 6, .inl (fun _ => 0))), (a5, .inl (d5, 6, .inl (fun _ => 0))), (a8, .inl (d8, 24, .inl (fun _ => 0))), (a10, .inl (d10, 8, .inl (fun _ => 0))), (a12, .inl (d12, 6, .inl (fun _ => 0))), (a13, .inl (d13, 6, .inl (fun _ => 0))), (a16, .inl (d16, 6, .inl (fun _ => 0))), (a17, .inl (d17, 24, .inl (fun _ => 0)))] := hD
  refine lv_aload_n hx hb dX0_init_92 rfl (lv_at hl 0 rfl) ?_
  refine lv_bipush (v := nI 6) hx hb dX0_init_93 (by decide) ?_
  refine va_newa (atype := .byte) (a0 := (6, .inl (fun _ => 0))) (N' := 6) (ty := .byte) hx hb (hts _ q99) rfl hK hP hD hS hA (fun _ => rfl) (by decide +kernel) (by decide +kernel) (by decide) (Nat.le_of_ble_eq_true rfl) (Nat.le_of_ble_eq_true rfl) dX0_init_95 (fun a18 d18 H hK hP hD hS => ?_)
  have hP : va_P D vwCl [(h0, .inr (0, [.int 0, .ref a1, .ref a2, .ref a3, .ref a4, .ref a5, .int 0, .int 0, .ref a8, .int 0, .ref a10, .int 0, .ref a12, .ref a13, .int 0, .int 0, .ref a16, .ref a17, .null])), (a1, .inl (d1, 6, .inl (fun _ => 0))), (a2, .inl (d2, 6, .inl (fun _ => 0))), (a3, .inl (d3, 6, .inl (fun _ => 0))), (a4, .inl (d4, 6, .inl (fun _ => 0))), (a5, .inl (d5, 6, .inl (fun _ => 0))), (a8, .inl (d8, 24, .inl (fun _ => 0))), (a10, .inl (d10, 8, .inl (fun _ => 0))), (a12, .inl (d12, 6, .inl (fun _ => 0))), (a13, .inl (d13, 6, .inl (fun _ => 0))), (a16, .inl (d16, 6, .inl (fun _ => 0))), (a17, .inl (d17, 24, .inl (fun _ => 0))), (a18, .inl (d18, 6, .inl (fun _ => 0)))] H := hP
  have hD : va_D A [(h0, .inr (0, [.int 0, .ref a1, .ref a2, .ref a3, .ref a4, .ref a5, .int 0, .int 0, .ref a8, .int 0, .ref a10, .int 0, .ref a12, .ref a13, .int 0, .int 0, .ref a16, .ref a17, .null])), (a1, .inl (d1, 6, .inl (fun _ => 0))), (a2, .inl (d2, 6, .inl (fun _ => 0))), (a3, .inl (d3, 6, .inl (fun _ => 0))), (a4, .inl (d4, 6, .inl (fun _ => 0))), (a5, .inl (d5, 6, .inl (fun _ => 0))), (a8, .inl (d8, 24, .inl (fun _ => 0))), (a10, .inl (d10, 8, .inl (fun _ => 0))), (a12, .inl (d12, 6, .inl (fun _ => 0))), (a13, .inl (d13, 6, .inl (fun _ => 0))), (a16, .inl (d16, 6, .inl (fun _ => 0))), (a17, .inl (d17, 24, .inl (fun _ => 0))), (a18, .inl (d18, 6, .inl (fun _ => 0)))] := hD
  have hK : va_K D vwCl [(d1, .byte), (d2, .byte), (d3, .byte), (d4, .byte), (d5, .byte), (d8, .byte), (d10, .byte), (d12, .byte), (d13, .byte), (d16, .byte), (d17, .byte), (d18, .byte)] s := hK
  refine va_putF (D := D) (ci := 0) (v := .ref a18) (ty := .array .byte) (C := RX0) (T := TX0) (N := 19) hx hb hts in_X0 tyX0 tyX0_ok nmX0 hown hK hP hD hS 0 rfl rfl 18 (by decide) (hts _ q59) (fun _ h9 => h9) rfl hin rfl (by decide +kernel) rfl rfl (Nat.le_of_ble_eq_true rfl) dX0_init_97 (fun H locs hP hD hS => ?_)
  have hP : va_P D vwCl [(h0, .inr (0, [.int 0, .ref a1, .ref a2, .ref a3, .ref a4, .ref a5, .int 0, .int 0, .ref a8, .int 0, .ref a10, .int 0, .ref a12, .ref a13, .int 0, .int 0, .ref a16, .ref a17, .ref a18])), (a1, .inl (d1, 6, .inl (fun _ => 0))), (a2, .inl (d2, 6, .inl (fun _ => 0))), (a3, .inl (d3, 6, .inl (fun _ => 0))), (a4, .inl (d4, 6, .inl (fun _ => 0))), (a5, .inl (d5, 6, .inl (fun _ => 0))), (a8, .inl (d8, 24, .inl (fun _ => 0))), (a10, .inl (d10, 8, .inl (fun _ => 0))), (a12, .inl (d12, 6, .inl (fun _ => 0))), (a13, .inl (d13, 6, .inl (fun _ => 0))), (a16, .inl (d16, 6, .inl (fun _ => 0))), (a17, .inl (d17, 24, .inl (fun _ => 0))), (a18, .inl (d18, 6, .inl (fun _ => 0)))] H := hP
  have hD : va_D A [(h0, .inr (0, [.int 0, .ref a1, .ref a2, .ref a3, .ref a4, .ref a5, .int 0, .int 0, .ref a8, .int 0, .ref a10, .int 0, .ref a12, .ref a13, .int 0, .int 0, .ref a16, .ref a17, .ref a18])), (a1, .inl (d1, 6, .inl (fun _ => 0))), (a2, .inl (d2, 6, .inl (fun _ => 0))), (a3, .inl (d3, 6, .inl (fun _ => 0))), (a4, .inl (d4, 6, .inl (fun _ => 0))), (a5, .inl (d5, 6, .inl (fun _ => 0))), (a8, .inl (d8, 24, .inl (fun _ => 0))), (a10, .inl (d10, 8, .inl (fun _ => 0))), (a12, .inl (d12, 6, .inl (fun _ => 0))), (a13, .inl (d13, 6, .inl (fun _ => 0))), (a16, .inl (d16, 6, .inl (fun _ => 0))), (a17, .inl (d17, 24, .inl (fun _ => 0))), (a18, .inl (d18, 6, .inl (fun _ => 0)))] := hD
  exact W.vret hx hb hr (fun t ht hW => ⟨⟨(fun k => match k with | 0 => h0 | 1 => a1 | 2 => a2 | 3 => a3 | 4 => a4 | 5 => a5 | 8 => a8 | 10 => a10 | 12 => a12 | 13 => a13 | 16 => a16 | 17 => a17 | _ => a18, fun k => match k with | 1 => d1 | 2 => d2 | 3 => d3 | 4 => d4 | 5 => d5 | 8 => d8 | 10 => d10 | 12 => d12 | 13 => d13 | 16 => d16 | 17 => d17 | _ => d18), rfl, rfl, by rw [ht]; exact hP, va_K.moved hW.alike hK, hD⟩, hS.F ht⟩) hS.2.2 dX0_init_100
def moF0 : List Value := [.null, .null, .null, .null, .null, .null, .int 0, .null, .null, .int 0, .null, .null, .null]
set_option maxHeartbeats 4000000 in
set_option maxRecDepth 100000 in
theorem mot_init (l : Launch) (D : va_G) (h0 sz : Nat) : Met l yX1_init (ws_ yX1_init cX1_init 1 none) { frames := 1, cells := 11, slots := 124, locals := 12 } (va_Pc [.ref h0] (fun U => U.heap.size = sz ∧ va_P D vwCl [(h0, .inr (1, moF0))] U.heap ∧ va_K D vwCl [] U ∧ va_D (fun _ => True) [(h0, .inr (1, moF0))])) (va_Qv (fun z : (Nat → Nat) × (Nat → ClassId) => z.1 0 = h0) (fun z t => va_P D vwCl (moW z.1 z.2 z0) t.heap ∧ va_K D vwCl (moTy z.2) t ∧ va_D (va_A [(h0, .inr (1, moF0))] sz) (moW z.1 z.2 z0)) (va_A [(h0, .inr (1, moF0))] sz)) 11 124 (va_A [(h0, .inr (1, moF0))] sz) := by
  refine Met.ofW (cc := cX1_init) (maxL := 1) (ret := none) (by decide +kernel) rfl ?_
  intro p e s m args below meth c s₁ B hml hv
  obtain ⟨rfl, hsz, hP, hK, hD0⟩ := hv
  have hx := B.exec
  have hb := B.bytes
  have hr := B.returns
  have hts0 := atoms_spec (ws := ws_ yX1_init cX1_init 1 none) B.pre
  have hts : ∀ w ∈ lw_all, w.before _ s = true := fun w h => hts0 w (List.mem_cons_of_mem _ h)
  have hown : s.vm.findClass RX1 = some m.cls := findClass_of_methodNamed B.named
  have hlocks := B.notSynchronized
  have hin : meth.name = "<init>" := (name_of_methodNamed B.named B.method).1
  subst hsz
  have hD := hD0.self (sz := s.heap.size)
  generalize hAe : va_A [(h0, .inr (1, moF0))] s.heap.size = A at hD ⊢
  have hA : ∀ q : Nat, s.heap.size ≤ q → A q := fun q h => by rw [← hAe]; exact Or.inr h
  have hS : va_S A s.heap s.heap [] := va_S.rf
  have hl := lv_entry ([.ref h0]) (n := 1) (Nat.le_of_ble_eq_true rfl)
  rw [lg_entry_eq]
  generalize (lg_sl ([.ref h0]) ++ List.replicate (1 - (lg_sl ([.ref h0])).length) Slot.unset).toArray = ls at hl ⊢
  have hl : lv_has ls 1 [(0, .ref h0)] := hl
  refine lv_aload_n hx hb dX1_init_0 rfl (lv_at hl 0 rfl) ?_
  refine W.objInit hx hb hown (hts _ q226) (hts _ q39) (hts _ q40) rfl (by rw [hml]; exact hl.1) rfl dX1_init_1 (Nat.le_of_ble_eq_true rfl) (Nat.le_of_ble_eq_true rfl) ?_
  refine W.eq (g2 := F0 m 4 ls []) rfl ?_
  refine lv_aload_n hx hb dX1_init_4 rfl (lv_at hl 0 rfl) ?_
  refine lv_bipush (v := nI 6) hx hb dX1_init_5 (by decide) ?_
  refine va_newa (atype := .boolean) (a0 := (6, .inl (fun _ => 0))) (N' := 6) (ty := .boolean) hx hb (hts _ q267) rfl hK hP hD hS hA (fun _ => rfl) (by decide +kernel) (by decide +kernel) (by decide) (Nat.le_of_ble_eq_true rfl) (Nat.le_of_ble_eq_true rfl) dX1_init_7 (fun a0 d0 H hK hP hD hS => ?_)
  have hP : va_P D vwCl [(h0, .inr (1, [.null, .null, .null, .null, .null, .null, .int 0, .null, .null, .int 0, .null, .null, .null])), (a0, .inl (d0, 6, .inl (fun _ => 0)))] H := hP
  have hD : va_D A [(h0, .inr (1, [.null, .null, .null, .null, .null, .null, .int 0, .null, .null, .int 0, .null, .null, .null])), (a0, .inl (d0, 6, .inl (fun _ => 0)))] := hD
  have hK : va_K D vwCl [(d0, .boolean)] s := hK
  refine va_put (D := D) (ci := 1) (v := .ref a0) (ty := .array .boolean) (C := RX1) (T := TX1) (N := 13) hx hb hts in_X1 tyX1 tyX1_ok nmX1 hown hK hP hD hS 0 rfl rfl 0 (by decide) (hts _ q227) (fun _ h9 => h9) rfl (by decide +kernel) rfl rfl (Nat.le_of_ble_eq_true rfl) dX1_init_9 (fun H locs hP hD hS => ?_)
  have hP : va_P D vwCl [(h0, .inr (1, [.ref a0, .null, .null, .null, .null, .null, .int 0, .null, .null, .int 0, .null, .null, .null])), (a0, .inl (d0, 6, .inl (fun _ => 0)))] H := hP
  have hD : va_D A [(h0, .inr (1, [.ref a0, .null, .null, .null, .null, .null, .int 0, .null, .null, .int 0, .null, .null, .null])), (a0, .inl (d0, 6, .inl (fun _ => 0)))] := hD
  refine lv_aload_n hx hb dX1_init_12 rfl (lv_at hl 0 rfl) ?_
  refine lv_bipush (v := nI 6) hx hb dX1_init_13 (by decide) ?_
  refine va_newa (atype := .int) (a0 := (6, .inl (fun _ => 0))) (N' := 6) (ty := .int) hx hb (hts _ q268) rfl hK hP hD hS hA (fun _ => rfl) (by decide +kernel) (by decide +kernel) (by decide) (Nat.le_of_ble_eq_true rfl) (Nat.le_of_ble_eq_true rfl) dX1_init_15 (fun a1 d1 H hK hP hD hS => ?_)
  have hP : va_P D vwCl [(h0, .inr (1, [.ref a0, .null, .null, .null, .null, .null, .int 0, .null, .null, .int 0, .null, .null, .null])), (a0, .inl (d0, 6, .inl (fun _ => 0))), (a1, .inl (d1, 6, .inl (fun _ => 0)))] H := hP
  have hD : va_D A [(h0, .inr (1, [.ref a0, .null, .null, .null, .null, .null, .int 0, .null, .null, .int 0, .null, .null, .null])), (a0, .inl (d0, 6, .inl (fun _ => 0))), (a1, .inl (d1, 6, .inl (fun _ => 0)))] := hD
  have hK : va_K D vwCl [(d0, .boolean), (d1, .int)] s := hK
  refine va_put (D := D) (ci := 1) (v := .ref a1) (ty := .array .int) (C := RX1) (T := TX1) (N := 13) hx hb hts in_X1 tyX1 tyX1_ok nmX1 hown hK hP hD hS 0 rfl rfl 1 (by decide) (hts _ q228) (fun _ h9 => h9) rfl (by decide +kernel) rfl rfl (Nat.le_of_ble_eq_true rfl) dX1_init_17 (fun H locs hP hD hS => ?_)
  have hP : va_P D vwCl [(h0, .inr (1, [.ref a0, .ref a1, .null, .null, .null, .null, .int 0, .null, .null, .int 0, .null, .null, .null])), (a0, .inl (d0, 6, .inl (fun _ => 0))), (a1, .inl (d1, 6, .inl (fun _ => 0)))] H := hP
  have hD : va_D A [(h0, .inr (1, [.ref a0, .ref a1, .null, .null, .null, .null, .int 0, .null, .null, .int 0, .null, .null, .null])), (a0, .inl (d0, 6, .inl (fun _ => 0))), (a1, .inl (d1, 6, .inl (fun _ => 0)))] := hD
  refine lv_aload_n hx hb dX1_init_20 rfl (lv_at hl 0 rfl) ?_
  refine lv_bipush (v := nI 6) hx hb dX1_init_21 (by decide) ?_
  refine va_newa (atype := .int) (a0 := (6, .inl (fun _ => 0))) (N' := 6) (ty := .int) hx hb (hts _ q268) rfl hK hP hD hS hA (fun _ => rfl) (by decide +kernel) (by decide +kernel) (by decide) (Nat.le_of_ble_eq_true rfl) (Nat.le_of_ble_eq_true rfl) dX1_init_23 (fun a2 d2 H hK hP hD hS => ?_)
  have hP : va_P D vwCl [(h0, .inr (1, [.ref a0, .ref a1, .null, .null, .null, .null, .int 0, .null, .null, .int 0, .null, .null, .null])), (a0, .inl (d0, 6, .inl (fun _ => 0))), (a1, .inl (d1, 6, .inl (fun _ => 0))), (a2, .inl (d2, 6, .inl (fun _ => 0)))] H := hP
  have hD : va_D A [(h0, .inr (1, [.ref a0, .ref a1, .null, .null, .null, .null, .int 0, .null, .null, .int 0, .null, .null, .null])), (a0, .inl (d0, 6, .inl (fun _ => 0))), (a1, .inl (d1, 6, .inl (fun _ => 0))), (a2, .inl (d2, 6, .inl (fun _ => 0)))] := hD
  have hK : va_K D vwCl [(d0, .boolean), (d1, .int), (d2, .int)] s := hK
  refine va_put (D := D) (ci := 1) (v := .ref a2) (ty := .array .int) (C := RX1) (T := TX1) (N := 13) hx hb hts in_X1 tyX1 tyX1_ok nmX1 hown hK hP hD hS 0 rfl rfl 2 (by decide) (hts _ q229) (fun _ h9 => h9) rfl (by decide +kernel) rfl rfl (Nat.le_of_ble_eq_true rfl) dX1_init_25 (fun H locs hP hD hS => ?_)
  have hP : va_P D vwCl [(h0, .inr (1, [.ref a0, .ref a1, .ref a2, .null, .null, .null, .int 0, .null, .null, .int 0, .null, .null, .null])), (a0, .inl (d0, 6, .inl (fun _ => 0))), (a1, .inl (d1, 6, .inl (fun _ => 0))), (a2, .inl (d2, 6, .inl (fun _ => 0)))] H := hP
  have hD : va_D A [(h0, .inr (1, [.ref a0, .ref a1, .ref a2, .null, .null, .null, .int 0, .null, .null, .int 0, .null, .null, .null])), (a0, .inl (d0, 6, .inl (fun _ => 0))), (a1, .inl (d1, 6, .inl (fun _ => 0))), (a2, .inl (d2, 6, .inl (fun _ => 0)))] := hD
  refine lv_aload_n hx hb dX1_init_28 rfl (lv_at hl 0 rfl) ?_
  refine lv_bipush (v := nI 6) hx hb dX1_init_29 (by decide) ?_
  refine va_newa (atype := .int) (a0 := (6, .inl (fun _ => 0))) (N' := 6) (ty := .int) hx hb (hts _ q268) rfl hK hP hD hS hA (fun _ => rfl) (by decide +kernel) (by decide +kernel) (by decide) (Nat.le_of_ble_eq_true rfl) (Nat.le_of_ble_eq_true rfl) dX1_init_31 (fun a3 d3 H hK hP hD hS => ?_)
  have hP : va_P D vwCl [(h0, .inr (1, [.ref a0, .ref a1, .ref a2, .null, .null, .null, .int 0, .null, .null, .int 0, .null, .null, .null])), (a0, .inl (d0, 6, .inl (fun _ => 0))), (a1, .inl (d1, 6, .inl (fun _ => 0))), (a2, .inl (d2, 6, .inl (fun _ => 0))), (a3, .inl (d3, 6, .inl (fun _ => 0)))] H := hP
  have hD : va_D A [(h0, .inr (1, [.ref a0, .ref a1, .ref a2, .null, .null, .null, .int 0, .null, .null, .int 0, .null, .null, .null])), (a0, .inl (d0, 6, .inl (fun _ => 0))), (a1, .inl (d1, 6, .inl (fun _ => 0))), (a2, .inl (d2, 6, .inl (fun _ => 0))), (a3, .inl (d3, 6, .inl (fun _ => 0)))] := hD
  have hK : va_K D vwCl [(d0, .boolean), (d1, .int), (d2, .int), (d3, .int)] s := hK
  refine va_put (D := D) (ci := 1) (v := .ref a3) (ty := .array .int) (C := RX1) (T := TX1) (N := 13) hx hb hts in_X1 tyX1 tyX1_ok nmX1 hown hK hP hD hS 0 rfl rfl 3 (by decide) (hts _ q230) (fun _ h9 => h9) rfl (by decide +kernel) rfl rfl (Nat.le_of_ble_eq_true rfl) dX1_init_33 (fun H locs hP hD hS => ?_)
  have hP : va_P D vwCl [(h0, .inr (1, [.ref a0, .ref a1, .ref a2, .ref a3, .null, .null, .int 0, .null, .null, .int 0, .null, .null, .null])), (a0, .inl (d0, 6, .inl (fun _ => 0))), (a1, .inl (d1, 6, .inl (fun _ => 0))), (a2, .inl (d2, 6, .inl (fun _ => 0))), (a3, .inl (d3, 6, .inl (fun _ => 0)))] H := hP
  have hD : va_D A [(h0, .inr (1, [.ref a0, .ref a1, .ref a2, .ref a3, .null, .null, .int 0, .null, .null, .int 0, .null, .null, .null])), (a0, .inl (d0, 6, .inl (fun _ => 0))), (a1, .inl (d1, 6, .inl (fun _ => 0))), (a2, .inl (d2, 6, .inl (fun _ => 0))), (a3, .inl (d3, 6, .inl (fun _ => 0)))] := hD
  refine lv_aload_n hx hb dX1_init_36 rfl (lv_at hl 0 rfl) ?_
  refine lv_bipush (v := nI 6) hx hb dX1_init_37 (by decide) ?_
  refine va_newa (atype := .int) (a0 := (6, .inl (fun _ => 0))) (N' := 6) (ty := .int) hx hb (hts _ q268) rfl hK hP hD hS hA (fun _ => rfl) (by decide +kernel) (by decide +kernel) (by decide) (Nat.le_of_ble_eq_true rfl) (Nat.le_of_ble_eq_true rfl) dX1_init_39 (fun a4 d4 H hK hP hD hS => ?_)
  have hP : va_P D vwCl [(h0, .inr (1, [.ref a0, .ref a1, .ref a2, .ref a3, .null, .null, .int 0, .null, .null, .int 0, .null, .null, .null])), (a0, .inl (d0, 6, .inl (fun _ => 0))), (a1, .inl (d1, 6, .inl (fun _ => 0))), (a2, .inl (d2, 6, .inl (fun _ => 0))), (a3, .inl (d3, 6, .inl (fun _ => 0))), (a4, .inl (d4, 6, .inl (fun _ => 0)))] H := hP
  have hD : va_D A [(h0, .inr (1, [.ref a0, .ref a1, .ref a2, .ref a3, .null, .null, .int 0, .null, .null, .int 0, .null, .null, .null])), (a0, .inl (d0, 6, .inl (fun _ => 0))), (a1, .inl (d1, 6, .inl (fun _ => 0))), (a2, .inl (d2, 6, .inl (fun _ => 0))), (a3, .inl (d3, 6, .inl (fun _ => 0))), (a4, .inl (d4, 6, .inl (fun _ => 0)))] := hD
  have hK : va_K D vwCl [(d0, .boolean), (d1, .int), (d2, .int), (d3, .int), (d4, .int)] s := hK
  refine va_put (D := D) (ci := 1) (v := .ref a4) (ty := .array .int) (C := RX1) (T := TX1) (N := 13) hx hb hts in_X1 tyX1 tyX1_ok nmX1 hown hK hP hD hS 0 rfl rfl 4 (by decide) (hts _ q231) (fun _ h9 => h9) rfl (by decide +kernel) rfl rfl (Nat.le_of_ble_eq_true rfl) dX1_init_41 (fun H locs hP hD hS => ?_)
  have hP : va_P D vwCl [(h0, .inr (1, [.ref a0, .ref a1, .ref a2, .ref a3, .ref a4, .null, .int 0, .null, .null, .int 0, .null, .null, .null])), (a0, .inl (d0, 6, .inl (fun _ => 0))), (a1, .inl (d1, 6, .inl (fun _ => 0))), (a2, .inl (d2, 6, .inl (fun _ => 0))), (a3, .inl (d3, 6, .inl (fun _ => 0))), (a4, .inl (d4, 6, .inl (fun _ => 0)))] H := hP
  have hD : va_D A [(h0, .inr (1, [.ref a0, .ref a1, .ref a2, .ref a3, .ref a4, .null, .int 0, .null, .null, .int 0, .null, .null, .null])), (a0, .inl (d0, 6, .inl (fun _ => 0))), (a1, .inl (d1, 6, .inl (fun _ => 0))), (a2, .inl (d2, 6, .inl (fun _ => 0))), (a3, .inl (d3, 6, .inl (fun _ => 0))), (a4, .inl (d4, 6, .inl (fun _ => 0)))] := hD
  refine lv_aload_n hx hb dX1_init_44 rfl (lv_at hl 0 rfl) ?_
  refine lv_bipush (v := nI 6) hx hb dX1_init_45 (by decide) ?_
  refine va_newa (atype := .int) (a0 := (6, .inl (fun _ => 0))) (N' := 6) (ty := .int) hx hb (hts _ q268) rfl hK hP hD hS hA (fun _ => rfl) (by decide +kernel) (by decide +kernel) (by decide) (Nat.le_of_ble_eq_true rfl) (Nat.le_of_ble_eq_true rfl) dX1_init_47 (fun a5 d5 H hK hP hD hS => ?_)
  have hP : va_P D vwCl [(h0, .inr (1, [.ref a0, .ref a1, .ref a2, .ref a3, .ref a4, .null, .int 0, .null, .null, .int 0, .null, .null, .null])), (a0, .inl (d0, 6, .inl (fun _ => 0))), (a1, .inl (d1, 6, .inl (fun _ => 0))), (a2, .inl (d2, 6, .inl (fun _ => 0))), (a3, .inl (d3, 6, .inl (fun _ => 0))), (a4, .inl (d4, 6, .inl (fun _ => 0))), (a5, .inl (d5, 6, .inl (fun _ => 0)))] H := hP
  have hD : va_D A [(h0, .inr (1, [.ref a0, .ref a1, .ref a2, .ref a3, .ref a4, .null, .int 0, .null, .null, .int 0, .null, .null, .null])), (a0, .inl (d0, 6, .inl (fun _ => 0))), (a1, .inl (d1, 6, .inl (fun _ => 0))), (a2, .inl (d2, 6, .inl (fun _ => 0))), (a3, .inl (d3, 6, .inl (fun _ => 0))), (a4, .inl (d4, 6, .inl (fun _ => 0))), (a5, .inl (d5, 6, .inl (fun _ => 0)))] := hD
  have hK : va_K D vwCl [(d0, .boolean), (d1, .int), (d2, .int), (d3, .int), (d4, .int), (d5, .int)] s := hK
  refine va_put (D := D) (ci := 1) (v := .ref a5) (ty := .array .int) (C := RX1) (T := TX1) (N := 13) hx hb hts in_X1 tyX1 tyX1_ok nmX1 hown hK hP hD hS 0 rfl rfl 5 (by decide) (hts _ q232) (fun _ h9 => h9) rfl (by decide +kernel) rfl rfl (Nat.le_of_ble_eq_true rfl) dX1_init_49 (fun H locs hP hD hS => ?_)
  have hP : va_P D vwCl [(h0, .inr (1, [.ref a0, .ref a1, .ref a2, .ref a3, .ref a4, .ref a5, .int 0, .null, .null, .int 0, .null, .null, .null])), (a0, .inl (d0, 6, .inl (fun _ => 0))), (a1, .inl (d1, 6, .inl (fun _ => 0))), (a2, .inl (d2, 6, .inl (fun _ => 0))), (a3, .inl (d3, 6, .inl (fun _ => 0))), (a4, .inl (d4, 6, .inl (fun _ => 0))), (a5, .inl (d5, 6, .inl (fun _ => 0)))] H := hP
  have hD : va_D A [(h0, .inr (1, [.ref a0, .ref a1, .ref a2, .ref a3, .ref a4, .ref a5, .int 0, .null, .null, .int 0, .null, .null, .null])), (a0, .inl (d0, 6, .inl (fun _ => 0))), (a1, .inl (d1, 6, .inl (fun _ => 0))), (a2, .inl (d2, 6, .inl (fun _ => 0))), (a3, .inl (d3, 6, .inl (fun _ => 0))), (a4, .inl (d4, 6, .inl (fun _ => 0))), (a5, .inl (d5, 6, .inl (fun _ => 0)))] := hD
  refine lv_aload_n hx hb dX1_init_52 rfl (lv_at hl 0 rfl) ?_
  refine lv_bipush (v := nI 64) hx hb dX1_init_53 (by decide) ?_
  refine va_newa (atype := .int) (a0 := (64, .inl (fun _ => 0))) (N' := 64) (ty := .int) hx hb (hts _ q268) rfl hK hP hD hS hA (fun _ => rfl) (by decide +kernel) (by decide +kernel) (by decide) (Nat.le_of_ble_eq_true rfl) (Nat.le_of_ble_eq_true rfl) dX1_init_55 (fun a7 d7 H hK hP hD hS => ?_)
  have hP : va_P D vwCl [(h0, .inr (1, [.ref a0, .ref a1, .ref a2, .ref a3, .ref a4, .ref a5, .int 0, .null, .null, .int 0, .null, .null, .null])), (a0, .inl (d0, 6, .inl (fun _ => 0))), (a1, .inl (d1, 6, .inl (fun _ => 0))), (a2, .inl (d2, 6, .inl (fun _ => 0))), (a3, .inl (d3, 6, .inl (fun _ => 0))), (a4, .inl (d4, 6, .inl (fun _ => 0))), (a5, .inl (d5, 6, .inl (fun _ => 0))), (a7, .inl (d7, 64, .inl (fun _ => 0)))] H := hP
  have hD : va_D A [(h0, .inr (1, [.ref a0, .ref a1, .ref a2, .ref a3, .ref a4, .ref a5, .int 0, .null, .null, .int 0, .null, .null, .null])), (a0, .inl (d0, 6, .inl (fun _ => 0))), (a1, .inl (d1, 6, .inl (fun _ => 0))), (a2, .inl (d2, 6, .inl (fun _ => 0))), (a3, .inl (d3, 6, .inl (fun _ => 0))), (a4, .inl (d4, 6, .inl (fun _ => 0))), (a5, .inl (d5, 6, .inl (fun _ => 0))), (a7, .inl (d7, 64, .inl (fun _ => 0)))] := hD
  have hK : va_K D vwCl [(d0, .boolean), (d1, .int), (d2, .int), (d3, .int), (d4, .int), (d5, .int), (d7, .int)] s := hK
  refine va_put (D := D) (ci := 1) (v := .ref a7) (ty := .array .int) (C := RX1) (T := TX1) (N := 13) hx hb hts in_X1 tyX1 tyX1_ok nmX1 hown hK hP hD hS 0 rfl rfl 7 (by decide) (hts _ q234) (fun _ h9 => h9) rfl (by decide +kernel) rfl rfl (Nat.le_of_ble_eq_true rfl) dX1_init_57 (fun H locs hP hD hS => ?_)
  have hP : va_P D vwCl [(h0, .inr (1, [.ref a0, .ref a1, .ref a2, .ref a3, .ref a4, .ref a5, .int 0, .ref a7, .null, .int 0, .null, .null, .null])), (a0, .inl (d0, 6, .inl (fun _ => 0))), (a1, .inl (d1, 6, .inl (fun _ => 0))), (a2, .inl (d2, 6, .inl (fun _ => 0))), (a3, .inl (d3, 6, .inl (fun _ => 0))), (a4, .inl (d4, 6, .inl (fun _ => 0))), (a5, .inl (d5, 6, .inl (fun _ => 0))), (a7, .inl (d7, 64, .inl (fun _ => 0)))] H := hP
  have hD : va_D A [(h0, .inr (1, [.ref a0, .ref a1, .ref a2, .ref a3, .ref a4, .ref a5, .int 0, .ref a7, .null, .int 0, .null, .null, .null])), (a0, .inl (d0, 6, .inl (fun _ => 0))), (a1, .inl (d1, 6, .inl (fun _ => 0))), (a2, .inl (d2, 6, .inl (fun _ => 0))), (a3, .inl (d3, 6, .inl (fun _ => 0))), (a4, .inl (d4, 6, .inl (fun _ => 0))), (a5, .inl (d5, 6, .inl (fun _ => 0))), (a7, .inl (d7, 64, .inl (fun _ => 0)))] := hD
  refine lv_aload_n hx hb dX1_init_60 rfl (lv_at hl 0 rfl) ?_
  refine lv_bipush (v := nI 6) hx hb dX1_init_61 (by decide) ?_
  refine va_newa (atype := .int) (a0 := (6, .inl (fun _ => 0))) (N' := 6) (ty := .int) hx hb (hts _ q268) rfl hK hP hD hS hA (fun _ => rfl) (by decide +kernel) (by decide +kernel) (by decide) (Nat.le_of_ble_eq_true rfl) (Nat.le_of_ble_eq_true rfl) dX1_init_63 (fun a8 d8 H hK hP hD hS => ?_)
  have hP : va_P D vwCl [(h0, .inr (1, [.ref a0, .ref a1, .ref a2, .ref a3, .ref a4, .ref a5, .int 0, .ref a7, .null, .int 0, .null, .null, .null])), (a0, .inl (d0, 6, .inl (fun _ => 0))), (a1, .inl (d1, 6, .inl (fun _ => 0))), (a2, .inl (d2, 6, .inl (fun _ => 0))), (a3, .inl (d3, 6, .inl (fun _ => 0))), (a4, .inl (d4, 6, .inl (fun _ => 0))), (a5, .inl (d5, 6, .inl (fun _ => 0))), (a7, .inl (d7, 64, .inl (fun _ => 0))), (a8, .inl (d8, 6, .inl (fun _ => 0)))] H := hP
  have hD : va_D A [(h0, .inr (1, [.ref a0, .ref a1, .ref a2, .ref a3, .ref a4, .ref a5, .int 0, .ref a7, .null, .int 0, .null, .null, .null])), (a0, .inl (d0, 6, .inl (fun _ => 0))), (a1, .inl (d1, 6, .inl (fun _ => 0))), (a2, .inl (d2, 6, .inl (fun _ => 0))), (a3, .inl (d3, 6, .inl (fun _ => 0))), (a4, .inl (d4, 6, .inl (fun _ => 0))), (a5, .inl (d5, 6, .inl (fun _ => 0))), (a7, .inl (d7, 64, .inl (fun _ => 0))), (a8, .inl (d8, 6, .inl (fun _ => 0)))] := hD
  have hK : va_K D vwCl [(d0, .boolean), (d1, .int), (d2, .int), (d3, .int), (d4, .int), (d5, .int), (d7, .int), (d8, .int)] s := hK
  refine va_put (D := D) (ci := 1) (v := .ref a8) (ty := .array .int) (C := RX1) (T := TX1) (N := 13) hx hb hts in_X1 tyX1 tyX1_ok nmX1 hown hK hP hD hS 0 rfl rfl 8 (by decide) (hts _ q235) (fun _ h9 => h9) rfl (by decide +kernel) rfl rfl (Nat.le_of_ble_eq_true rfl) dX1_init_65 (fun H locs hP hD hS => ?_)
  have hP : va_P D vwCl [(h0, .inr (1, [.ref a0, .ref a1, .ref a2, .ref a3, .ref a4, .ref a5, .int 0, .ref a7, .ref a8, .int 0, .null, .null, .null])), (a0, .inl (d0, 6, .inl (fun _ => 0))), (a1, .inl (d1, 6, .inl (fun _ => 0))), (a2, .inl (d2, 6, .inl (fun _ => 0))), (a3, .inl (d3, 6, .inl (fun _ => 0))), (a4, .inl (d4, 6, .inl (fun _ => 0))), (a5, .inl (d5, 6, .inl (fun _ => 0))), (a7, .inl (d7, 64, .inl (fun _ => 0))), (a8, .inl (d8, 6, .inl (fun _ => 0)))] H := hP
  have hD : va_D A [(h0, .inr (1, [.ref a0, .ref a1, .ref a2, .ref a3, .ref a4, .ref a5, .int 0, .ref a7, .ref a8, .int 0, .null, .null, .null])), (a0, .inl (d0, 6, .inl (fun _ => 0))), (a1, .inl (d1, 6, .inl (fun _ => 0))), (a2, .inl (d2, 6, .inl (fun _ => 0))), (a3, .inl (d3, 6, .inl (fun _ => 0))), (a4, .inl (d4, 6, .inl (fun _ => 0))), (a5, .inl (d5, 6, .inl (fun _ => 0))), (a7, .inl (d7, 64, .inl (fun _ => 0))), (a8, .inl (d8, 6, .inl (fun _ => 0)))] := hD
  refine lv_aload_n hx hb dX1_init_68 rfl (lv_at hl 0 rfl) ?_
  refine lv_bipush (v := nI 6) hx hb dX1_init_69 (by decide) ?_
  refine va_newa (atype := .int) (a0 := (6, .inl (fun _ => 0))) (N' := 6) (ty := .int) hx hb (hts _ q268) rfl hK hP hD hS hA (fun _ => rfl) (by decide +kernel) (by decide +kernel) (by decide) (Nat.le_of_ble_eq_true rfl) (Nat.le_of_ble_eq_true rfl) dX1_init_71 (fun a10 d10 H hK hP hD hS => ?_)
  have hP : va_P D vwCl [(h0, .inr (1, [.ref a0, .ref a1, .ref a2, .ref a3, .ref a4, .ref a5, .int 0, .ref a7, .ref a8, .int 0, .null, .null, .null])), (a0, .inl (d0, 6, .inl (fun _ => 0))), (a1, .inl (d1, 6, .inl (fun _ => 0))), (a2, .inl (d2, 6, .inl (fun _ => 0))), (a3, .inl (d3, 6, .inl (fun _ => 0))), (a4, .inl (d4, 6, .inl (fun _ => 0))), (a5, .inl (d5, 6, .inl (fun _ => 0))), (a7, .inl (d7, 64, .inl (fun _ => 0))), (a8, .inl (d8, 6, .inl (fun _ => 0))), (a10, .inl (d10, 6, .inl (fun _ => 0)))] H := hP
  have hD : va_D A [(h0, .inr (1, [.ref a0, .ref a1, .ref a2, .ref a3, .ref a4, .ref a5, .int 0, .ref a7, .ref a8, .int 0, .null, .null, .null])), (a0, .inl (d0, 6, .inl (fun _ => 0))), (a1, .inl (d1, 6, .inl (fun _ => 0))), (a2, .inl (d2, 6, .inl (fun _ => 0))), (a3, .inl (d3, 6, .inl (fun _ => 0))), (a4, .inl (d4, 6, .inl (fun _ => 0))), (a5, .inl (d5, 6, .inl (fun _ => 0))), (a7, .inl (d7, 64, .inl (fun _ => 0))), (a8, .inl (d8, 6, .inl (fun _ => 0))), (a10, .inl (d10, 6, .inl (fun _ => 0)))] := hD
  have hK : va_K D vwCl [(d0, .boolean), (d1, .int), (d2, .int), (d3, .int), (d4, .int), (d5, .int), (d7, .int), (d8, .int), (d10, .int)] s := hK
  refine va_put (D := D) (ci := 1) (v := .ref a10) (ty := .array .int) (C := RX1) (T := TX1) (N := 13) hx hb hts in_X1 tyX1 tyX1_ok nmX1 hown hK hP hD hS 0 rfl rfl 10 (by decide) (hts _ q237) (fun _ h9 => h9) rfl (by decide +kernel) rfl rfl (Nat.le_of_ble_eq_true rfl) dX1_init_73 (fun H locs hP hD hS => ?_)
  have hP : va_P D vwCl [(h0, .inr (1, [.ref a0, .ref a1, .ref a2, .ref a3, .ref a4, .ref a5, .int 0, .ref a7, .ref a8, .int 0, .ref a10, .null, .null])), (a0, .inl (d0, 6, .inl (fun _ => 0))), (a1, .inl (d1, 6, .inl (fun _ => 0))), (a2, .inl (d2, 6, .inl (fun _ => 0))), (a3, .inl (d3, 6, .inl (fun _ => 0))), (a4, .inl (d4, 6, .inl (fun _ => 0))), (a5, .inl (d5, 6, .inl (fun _ => 0))), (a7, .inl (d7, 64, .inl (fun _ => 0))), (a8, .inl (d8, 6, .inl (fun _ => 0))), (a10, .inl (d10, 6, .inl (fun _ => 0)))] H := hP
  have hD : va_D A [(h0, .inr (1, [.ref a0, .ref a1, .ref a2, .ref a3, .ref a4, .ref a5, .int 0, .ref a7, .ref a8, .int 0, .ref a10, .null, .null])), (a0, .inl (d0, 6, .inl (fun _ => 0))), (a1, .inl (d1, 6, .inl (fun _ => 0))), (a2, .inl (d2, 6, .inl (fun _ => 0))), (a3, .inl (d3, 6, .inl (fun _ => 0))), (a4, .inl (d4, 6, .inl (fun _ => 0))), (a5, .inl (d5, 6, .inl (fun _ => 0))), (a7, .inl (d7, 64, .inl (fun _ => 0))), (a8, .inl (d8, 6, .inl (fun _ => 0))), (a10, .inl (d10, 6, .inl (fun _ => 0)))] := hD
  refine lv_aload_n hx hb dX1_init_76 rfl (lv_at hl 0 rfl) ?_
  refine lv_bipush (v := nI 6) hx hb dX1_init_77 (by decide) ?_
  refine va_newa (atype := .int) (a0 := (6, .inl (fun _ => 0))) (N' := 6) (ty := .int) hx hb (hts _ q268) rfl hK hP hD hS hA (fun _ => rfl) (by decide +kernel) (by decide +kernel) (by decide) (Nat.le_of_ble_eq_true rfl) (Nat.le_of_ble_eq_true rfl) dX1_init_79 (fun a11 d11 H hK hP hD hS => ?_)
  have hP : va_P D vwCl [(h0, .inr (1, [.ref a0, .ref a1, .ref a2, .ref a3, .ref a4, .ref a5, .int 0, .ref a7, .ref a8, .int 0, .ref a10, .null, .null])), (a0, .inl (d0, 6, .inl (fun _ => 0))), (a1, .inl (d1, 6, .inl (fun _ => 0))), (a2, .inl (d2, 6, .inl (fun _ => 0))), (a3, .inl (d3, 6, .inl (fun _ => 0))), (a4, .inl (d4, 6, .inl (fun _ => 0))), (a5, .inl (d5, 6, .inl (fun _ => 0))), (a7, .inl (d7, 64, .inl (fun _ => 0))), (a8, .inl (d8, 6, .inl (fun _ => 0))), (a10, .inl (d10, 6, .inl (fun _ => 0))), (a11, .inl (d11, 6, .inl (fun _ => 0)))] H := hP
  have hD : va_D A [(h0, .inr (1, [.ref a0, .ref a1, .ref a2, .ref a3, .ref a4, .ref a5, .int 0, .ref a7, .ref a8, .int 0, .ref a10, .null, .null])), (a0, .inl (d0, 6, .inl (fun _ => 0))), (a1, .inl (d1, 6, .inl (fun _ => 0))), (a2, .inl (d2, 6, .inl (fun _ => 0))), (a3, .inl (d3, 6, .inl (fun _ => 0))), (a4, .inl (d4, 6, .inl (fun _ => 0))), (a5, .inl (d5, 6, .inl (fun _ => 0))), (a7, .inl (d7, 64, .inl (fun _ => 0))), (a8, .inl (d8, 6, .inl (fun _ => 0))), (a10, .inl (d10, 6, .inl (fun _ => 0))), (a11, .inl (d11, 6, .inl (fun _ => 0)))] := hD
  have hK : va_K D vwCl [(d0, .boolean), (d1, .int), (d2, .int), (d3, .int), (d4, .int), (d5, .int), (d7, .int), (d8, .int), (d10, .int), (d11, .int)] s := hK
  refine va_put (D := D) (ci := 1) (v := .ref a11) (ty := .array .int) (C := RX1) (T := TX1) (N := 13) hx hb hts in_X1 tyX1 tyX1_ok nmX1 hown hK hP hD hS 0 rfl rfl 11 (by decide) (hts _ q238) (fun _ h9 => h9) rfl (by decide +kernel) rfl rfl (Nat.le_of_ble_eq_true rfl) dX1_init_81 (fun H locs hP hD hS => ?_)
  have hP : va_P D vwCl [(h0, .inr (1, [.ref a0, .ref a1, .ref a2, .ref a3, .ref a4, .ref a5, .int 0, .ref a7, .ref a8, .int 0, .ref a10, .ref a11, .null])), (a0, .inl (d0, 6, .inl (fun _ => 0))), (a1, .inl (d1, 6, .inl (fun _ => 0))), (a2, .inl (d2, 6, .inl (fun _ => 0))), (a3, .inl (d3, 6, .inl (fun _ => 0))), (a4, .inl (d4, 6, .inl (fun _ => 0))), (a5, .inl (d5, 6, .inl (fun _ => 0))), (a7, .inl (d7, 64, .inl (fun _ => 0))), (a8, .inl (d8, 6, .inl (fun _ => 0))), (a10, .inl (d10, 6, .inl (fun _ => 0))), (a11, .inl (d11, 6, .inl (fun _ => 0)))] H := hP
  have hD : va_D A [(h0, .inr (1, [.ref a0, .ref a1, .ref a2, .ref a3, .ref a4, .ref a5, .int 0, .ref a7, .ref a8, .int 0, .ref a10, .ref a11, .null])), (a0, .inl (d0, 6, .inl (fun _ => 0))), (a1, .inl (d1, 6, .inl (fun _ => 0))), (a2, .inl (d2, 6, .inl (fun _ => 0))), (a3, .inl (d3, 6, .inl (fun _ => 0))), (a4, .inl (d4, 6, .inl (fun _ => 0))), (a5, .inl (d5, 6, .inl (fun _ => 0))), (a7, .inl (d7, 64, .inl (fun _ => 0))), (a8, .inl (d8, 6, .inl (fun _ => 0))), (a10, .inl (d10, 6, .inl (fun _ => 0))), (a11, .inl (d11, 6, .inl (fun _ => 0)))] := hD
  refine lv_aload_n hx hb dX1_init_84 rfl (lv_at hl 0 rfl) ?_
  refine lv_bipush (v := nI 6) hx hb dX1_init_85 (by decide) ?_
  refine va_newa (atype := .int) (a0 := (6, .inl (fun _ => 0))) (N' := 6) (ty := .int) hx hb (hts _ q268) rfl hK hP hD hS hA (fun _ => rfl) (by decide +kernel) (by decide +kernel) (by decide) (Nat.le_of_ble_eq_true rfl) (Nat.le_of_ble_eq_true rfl) dX1_init_87 (fun a12 d12 H hK hP hD hS => ?_)
  have hP : va_P D vwCl [(h0, .inr (1, [.ref a0, .ref a1, .ref a2, .ref a3, .ref a4, .ref a5, .int 0, .ref a7, .ref a8, .int 0, .ref a10, .ref a11, .null])), (a0, .inl (d0, 6, .inl (fun _ => 0))), (a1, .inl (d1, 6, .inl (fun _ => 0))), (a2, .inl (d2, 6, .inl (fun _ => 0))), (a3, .inl (d3, 6, .inl (fun _ => 0))), (a4, .inl (d4, 6, .inl (fun _ => 0))), (a5, .inl (d5, 6, .inl (fun _ => 0))), (a7, .inl (d7, 64, .inl (fun _ => 0))), (a8, .inl (d8, 6, .inl (fun _ => 0))), (a10, .inl (d10, 6, .inl (fun _ => 0))), (a11, .inl (d11, 6, .inl (fun _ => 0))), (a12, .inl (d12, 6, .inl (fun _ => 0)))] H := hP
  have hD : va_D A [(h0, .inr (1, [.ref a0, .ref a1, .ref a2, .ref a3, .ref a4, .ref a5, .int 0, .ref a7, .ref a8, .int 0, .ref a10, .ref a11, .null])), (a0, .inl (d0, 6, .inl (fun _ => 0))), (a1, .inl (d1, 6, .inl (fun _ => 0))), (a2, .inl (d2, 6, .inl (fun _ => 0))), (a3, .inl (d3, 6, .inl (fun _ => 0))), (a4, .inl (d4, 6, .inl (fun _ => 0))), (a5, .inl (d5, 6, .inl (fun _ => 0))), (a7, .inl (d7, 64, .inl (fun _ => 0))), (a8, .inl (d8, 6, .inl (fun _ => 0))), (a10, .inl (d10, 6, .inl (fun _ => 0))), (a11, .inl (d11, 6, .inl (fun _ => 0))), (a12, .inl (d12, 6, .inl (fun _ => 0)))] := hD
  have hK : va_K D vwCl [(d0, .boolean), (d1, .int), (d2, .int), (d3, .int), (d4, .int), (d5, .int), (d7, .int), (d8, .int), (d10, .int), (d11, .int), (d12, .int)] s := hK
  refine va_put (D := D) (ci := 1) (v := .ref a12) (ty := .array .int) (C := RX1) (T := TX1) (N := 13) hx hb hts in_X1 tyX1 tyX1_ok nmX1 hown hK hP hD hS 0 rfl rfl 12 (by decide) (hts _ q239) (fun _ h9 => h9) rfl (by decide +kernel) rfl rfl (Nat.le_of_ble_eq_true rfl) dX1_init_89 (fun H locs hP hD hS => ?_)
  have hP : va_P D vwCl [(h0, .inr (1, [.ref a0, .ref a1, .ref a2, .ref a3, .ref a4, .ref a5, .int 0, .ref a7, .ref a8, .int 0, .ref a10, .ref a11, .ref a12])), (a0, .inl (d0, 6, .inl (fun _ => 0))), (a1, .inl (d1, 6, .inl (fun _ => 0))), (a2, .inl (d2, 6, .inl (fun _ => 0))), (a3, .inl (d3, 6, .inl (fun _ => 0))), (a4, .inl (d4, 6, .inl (fun _ => 0))), (a5, .inl (d5, 6, .inl (fun _ => 0))), (a7, .inl (d7, 64, .inl (fun _ => 0))), (a8, .inl (d8, 6, .inl (fun _ => 0))), (a10, .inl (d10, 6, .inl (fun _ => 0))), (a11, .inl (d11, 6, .inl (fun _ => 0))), (a12, .inl (d12, 6, .inl (fun _ => 0)))] H := hP
  have hD : va_D A [(h0, .inr (1, [.ref a0, .ref a1, .ref a2, .ref a3, .ref a4, .ref a5, .int 0, .ref a7, .ref a8, .int 0, .ref a10, .ref a11, .ref a12])), (a0, .inl (d0, 6, .inl (fun _ => 0))), (a1, .inl (d1, 6, .inl (fun _ => 0))), (a2, .inl (d2, 6, .inl (fun _ => 0))), (a3, .inl (d3, 6, .inl (fun _ => 0))), (a4, .inl (d4, 6, .inl (fun _ => 0))), (a5, .inl (d5, 6, .inl (fun _ => 0))), (a7, .inl (d7, 64, .inl (fun _ => 0))), (a8, .inl (d8, 6, .inl (fun _ => 0))), (a10, .inl (d10, 6, .inl (fun _ => 0))), (a11, .inl (d11, 6, .inl (fun _ => 0))), (a12, .inl (d12, 6, .inl (fun _ => 0)))] := hD
  exact W.vret hx hb hr (fun t ht hW => ⟨⟨(fun k => match k with | 0 => h0 | 13 => a0 | 1 => a1 | 2 => a2 | 3 => a3 | 4 => a4 | 5 => a5 | 7 => a7 | 8 => a8 | 10 => a10 | 11 => a11 | _ => a12, fun k => match k with | 13 => d0 | 1 => d1 | 2 => d2 | 3 => d3 | 4 => d4 | 5 => d5 | 7 => d7 | 8 => d8 | 10 => d10 | 11 => d11 | _ => d12), rfl, rfl, by rw [ht]; exact hP, va_K.moved hW.alike hK, hD⟩, hS.F ht⟩) hS.2.2 dX1_init_92
end
section
def R_law : String := "ImpreciseDeskLaw"
def lw_P (b : Addr) (xs : List Int32) (args : Array Value) (s : State) : Prop := args = #[.ref b] ∧ s.IntsAt b xs ∧ xs.length ≤ 256 ∧ (Jvm.Cond.and given_1 narrow_1).before args s = true
def lw_Q (_ : Array Value) (s : State) (o : Outcome) (t : State) : Prop := o = .returned (some (.int 1)) ∧ Framed s o t [] 600000 7290000
def lw_Z (below : List Frame) (a : Array Value) (s : State) : State → Prop := fun t => ∃ o, t.status = .running ∧ Ended t below o ∧ lw_Q a s o t
/-- the law's own end, with 1 on the stack, nothing written that was there before, its room as the claim has it -/
theorem lw_ret {p : Program} {l : Launch} {e : Env} {s : State} {m : MethodId} {below : List Frame} {meth : Method} {c : Code} {b : Nat} (hx : p.tables.exec = Jvm.exec) (hb : c.code = code) (hr : meth.sig.returnType = ret) (hlocks : meth.locks = false) {pc : Nat} {H : Heap} {ls : Array Slot} (hdg : decode code pc = .ok (.ireturn, 1)) : W p l e room_1 s m #[Value.ref b] below meth c H [] 600000 7290000 (lw_Z below #[Value.ref b] s) (F0 m pc ls [.int 1]) := by
  intro T hT X
  obtain ⟨fs, hret, hrun, hended, hW, hframe⟩ := X.leave (v := some (.int 1)) (hlocks := hlocks) (fun h => by rw [hr] at h; cases h)
  have hmeth' : T.vm.method? m = some meth := X.method'
  refine ⟨T.setFrames fs, ?_, .returned (some (.int 1)), hrun, hended, rfl, ⟨_, rfl⟩, hW, hframe⟩
  jvm_step X.here [X.here.top, hx, hb, hdg, hmeth', hr, ret, narrow_b1]
  (try refine ⟨rfl, ?_⟩); (try refine ⟨rfl, ?_⟩)
  first | (intro acts; rw [hret _ acts rfl rfl rfl]) | rw [hret _ _ rfl rfl rfl]
  exact Steps.refl _
/-- what holds at the law's entry: the machine, the code, the tables' words (any of lw_tbl by 'hts w (by decide +kernel)'), the script of L ints xs at the cell b, what the Statement gives of the start (any of its parts by flat_of_before) -/
def lw_At (p : Program) (s : State) (m : MethodId) (meth : Method) (c : Code) (b L : Nat) (xs : Nat → Int32) : Prop :=
  p.tables.exec = Jvm.exec ∧ c.code = code ∧ meth.sig.returnType = ret ∧ c.maxLocals = 4 ∧ s.vm.findClass R_law = some m.cls ∧ (∀ w ∈ lw_tbl, w.before #[Value.ref b] s = true) ∧ va_X b L xs s s.heap ∧ b < s.heap.size ∧ meth.locks = false ∧ (Jvm.Cond.and given_1 narrow_1).before #[Value.ref b] s = true
def lOk (E : gE (dS × dS)) (l0 : Launch) (a1 a2 : Nat → Nat) (b L : Nat) (xs : Nat → Int32) : Prop := match E with
  | (_, l, _, R, s, _, _, _, _, _, _, _, tys, w, A, _, cells, slots) => l = l0 ∧ R = room_1 ∧ cells = 600000 ∧ slots = 7290000 ∧ (∃ d1 d2, w = (fun u => dkW a1 d1 u.1 ++ moW a2 d2 u.2) ∧ tys = dkTy d1 ++ moTy d2) ∧ va_X b L xs s s.heap ∧ b < s.heap.size ∧ ¬ A b ∧ L ≤ 256
section
variable {E : gE (dS × dS)} {cc : ByteArray} {own : String} {l : Launch} {a1 a2 : Nat → Nat} {b L : Nat} {xs : Nat → Int32} {pc : Nat} {lv : List (Option Value)} {st : List Value} {u : dS × dS}
theorem lw_sld (g : gOk E cc own) (k : lOk E l a1 a2 b L xs) {i : Int32} {j : Nat} (hd : decode cc pc = .ok (.iaload, 1)) (hi : i = nI j) (hj : j < L) (kk : gG E (pc + 1) lv (.int (xs j) :: st) u) : gG E pc lv (.int i :: .ref b :: st) u := by
  subst hi
  obtain ⟨p, l', e, R, s, m, args, below, meth, c, Q, D, tys, w, A, nL, cells, slots⟩ := E
  obtain ⟨rfl, rfl, rfl, rfl, ⟨d1, d2, rfl, rfl⟩, hX, hbl, hbA, hL⟩ := k
  obtain ⟨hx, hb, hml, hown, hts, hA, hlk⟩ := g
  intro H locs ls hK hP hD hS h
  refine va_sld hx hb hX hbl hbA hS (vp_in_nI hj (by omega)) hd ?_
  rw [nI_clamp (by omega)]
  exact kk H locs ls hK hP hD hS h
theorem lw_len (g : gOk E cc own) (k : lOk E l a1 a2 b L xs) (hd : decode cc pc = .ok (.arraylength, 1)) (kk : gG E (pc + 1) lv (.int (nI L) :: st) u) : gG E pc lv (.ref b :: st) u := by
  obtain ⟨p, l', e, R, s, m, args, below, meth, c, Q, D, tys, w, A, nL, cells, slots⟩ := E
  obtain ⟨rfl, rfl, rfl, rfl, ⟨d1, d2, rfl, rfl⟩, hX, hbl, hbA, hL⟩ := k
  obtain ⟨hx, hb, hml, hown, hts, hA, hlk⟩ := g
  intro H locs ls hK hP hD hS h
  exact va_slen hx hb hX hbl hbA hS hd (kk H locs ls hK hP hD hS h)
theorem g_tabIn (g : gOk E cc own) {dflt lo hi : Int} {offs : Array Int} {len : Nat} {x : Int32} {off : Int} {tgt : Nat} (hd : decode cc pc = .ok (.tableswitch dflt lo hi offs, len)) (h1 : ¬ x.toInt < lo) (h2 : ¬ hi < x.toInt) (ho : offs[(x.toInt - lo).toNat]? = some off) (ht : (pc : Int) + off = (tgt : Int)) (kk : gG E tgt lv st u) : gG E pc lv (.int x :: st) u := by
  obtain ⟨p, l', e, R, s, m, args, below, meth, c, Q, D, tys, w, A, nL, cells, slots⟩ := E
  obtain ⟨hx, hb, hml, hown, hts, hA, hlk⟩ := g
  intro H locs ls hK hP hD hS h
  exact lv_tableIn hx hb hd h1 h2 ho ht (kk H locs ls hK hP hD hS h)
theorem g_tabOut (g : gOk E cc own) {dflt lo hi : Int} {offs : Array Int} {len : Nat} {x : Int32} {tgt : Nat} (hd : decode cc pc = .ok (.tableswitch dflt lo hi offs, len)) (h1 : x.toInt < lo ∨ hi < x.toInt) (ht : (pc : Int) + dflt = (tgt : Int)) (kk : gG E tgt lv st u) : gG E pc lv (.int x :: st) u := by
  obtain ⟨p, l', e, R, s, m, args, below, meth, c, Q, D, tys, w, A, nL, cells, slots⟩ := E
  obtain ⟨hx, hb, hml, hown, hts, hA, hlk⟩ := g
  intro H locs ls hK hP hD hS h
  exact lv_tableOut hx hb hd h1 ht (kk H locs ls hK hP hD hS h)
set_option maxHeartbeats 4000000 in
set_option maxRecDepth 100000 in
theorem lcall1 (g : gOk E cc own) (k : lOk E l a1 a2 b L xs) {y : MethodName} {bts : ByteArray} {Lm f' n' na idx : Nat} {r : Option FieldType} {As st0 : List Value} {ud um : dS} {post : Int32 → dS → Prop} (hyc : y.cls = RX0) (hw : GoodIn lw_all (wsV own idx y.cls y (ws_ y bts Lm r))) (hy : y.cls = y.cls ∧ y.cls ≠ "java/lang/invoke/MethodHandle" ∧ y.cls ≠ "java/lang/invoke/VarHandle" ∧ (parseMethodDescriptor y.desc).map (fun d => d.parameters.length) = some na) (hna : As.length = na) (hM : gMi dkC l y bts Lm r (gR f' n') As ud post) (hR : f' + 1 ≤ 10 ∧ 8 + (Lm + 11) + n' ≤ 362) (hd : decode cc pc = .ok (.invokevirtual idx, 3)) (hst : st0 = As.reverse ++ .ref (a1 0) :: st) (hs : (st.map fun v => v.category).sum ≤ 8) (kk : ∀ (r : Int32) (u' : dS), post r u' → gG E (pc + 3) lv (.int r :: st) (u', um)) : gG E pc lv st0 (ud, um) := by
  obtain ⟨p, l', e, R, s, m, args, below, meth, c, Q, D, tys, w, A, nL, cells, slots⟩ := E
  obtain ⟨rfl, rfl, rfl, rfl, ⟨d1, d2, rfl, rfl⟩, hX, hbl, hbA, hL⟩ := k
  obtain ⟨hx, hb, hml, hown, hts, hA, hlk⟩ := g
  intro H locs ls hK hP hD hS h
  have hP : va_P D vwCl (dkW a1 d1 ud ++ moW a2 d2 um) H := hP
  have hD : va_D A (dkW a1 d1 ud ++ moW a2 d2 um) := hD
  have hPc := hP.sub (ws' := dkW a1 d1 ud) [0, 1, 2, 3, 4, 5, 6, 7, 8, 9, 10, 11, 12] rfl
  have hDc := hD.sub (ws' := dkW a1 d1 ud) [0, 1, 2, 3, 4, 5, 6, 7, 8, 9, 10, 11, 12] (by decide) rfl
  have hKc := hK.sub (tys' := dkTy d1) [0, 1, 2, 3, 4, 5, 6, 7, 8, 9, 10, 11] rfl
  have hFc := va_free (wc := dkW a1 d1 ud) hD hS hA [0, 1, 2, 3, 4, 5, 6, 7, 8, 9, 10, 11, 12] rfl
  refine va_calli (va_runV (As := As) (rest := st) ⟨hx, hb, hml, hown, hts⟩ (hM D a1 d1 H.size) (cwV na hts hw rfl rfl rfl hy hR) ⟨fun a U g mk q => by obtain ⟨q0, q1, qP, qK, qD⟩ := q; exact ⟨q0, q1, qP, va_K.moved (u := U) (U := U.calling g mk a) (Vm.Alike.refl U.vm) qK, qD⟩, by rw [hyc]; exact va_recv (ci := 0) (q0 := 0) hKc hPc rfl rfl, fun U hU hW => ⟨rfl, by rw [hU], by rw [hU]; exact hPc, va_K.moved hW.alike hKc, hDc.weaken (fun _ _ _ _ => trivial)⟩⟩ rfl hna h.1 hst (lv_room hs) hd ⟨Nat.le_refl _, Nat.le_refl _⟩) hS (fun q _ h => hFc q h) hFc (fun r u' t H1 locs1 ht hvm hp hB hz hk1 hS1 => ?_)
  obtain ⟨hP1, hK1, hD1⟩ := hB
  obtain ⟨hP2, hD2⟩ := va_join (wr := moW a2 d2 um) (w1 := dkW a1 d1 u') hP hD [0, 1, 2, 3, 4, 5, 6, 7, 8, 9, 10, 11, 12] [13, 14, 15, 16, 17, 18, 19, 20, 21, 22, 23, 24] rfl rfl (by decide) (by decide) hk1 hFc (ht ▸ hP1) hD1
  exact kk r u' hp H1 locs1 ls hK (hP2.sub (ws' := dkW a1 d1 u' ++ moW a2 d2 um) [12, 13, 14, 15, 16, 17, 18, 19, 20, 21, 22, 23, 24, 0, 1, 2, 3, 4, 5, 6, 7, 8, 9, 10, 11] rfl) (hD2.sub (ws' := dkW a1 d1 u' ++ moW a2 d2 um) [12, 13, 14, 15, 16, 17, 18, 19, 20, 21, 22, 23, 24, 0, 1, 2, 3, 4, 5, 6, 7, 8, 9, 10, 11] (by decide) rfl) hS1 h
set_option maxHeartbeats 4000000 in
set_option maxRecDepth 100000 in
theorem lcall2 (g : gOk E cc own) (k : lOk E l a1 a2 b L xs) {y : MethodName} {bts : ByteArray} {Lm f' n' na idx : Nat} {r : Option FieldType} {As st0 : List Value} {ud um : dS} {post : Int32 → dS → Prop} (hyc : y.cls = RX1) (hw : GoodIn lw_all (wsV own idx y.cls y (ws_ y bts Lm r))) (hy : y.cls = y.cls ∧ y.cls ≠ "java/lang/invoke/MethodHandle" ∧ y.cls ≠ "java/lang/invoke/VarHandle" ∧ (parseMethodDescriptor y.desc).map (fun d => d.parameters.length) = some na) (hna : As.length = na) (hM : gMi moC l y bts Lm r (gR f' n') As um post) (hR : f' + 1 ≤ 10 ∧ 8 + (Lm + 11) + n' ≤ 362) (hd : decode cc pc = .ok (.invokevirtual idx, 3)) (hst : st0 = As.reverse ++ .ref (a2 0) :: st) (hs : (st.map fun v => v.category).sum ≤ 8) (kk : ∀ (r : Int32) (u' : dS), post r u' → gG E (pc + 3) lv (.int r :: st) (ud, u')) : gG E pc lv st0 (ud, um) := by
  obtain ⟨p, l', e, R, s, m, args, below, meth, c, Q, D, tys, w, A, nL, cells, slots⟩ := E
  obtain ⟨rfl, rfl, rfl, rfl, ⟨d1, d2, rfl, rfl⟩, hX, hbl, hbA, hL⟩ := k
  obtain ⟨hx, hb, hml, hown, hts, hA, hlk⟩ := g
  intro H locs ls hK hP hD hS h
  have hP : va_P D vwCl (dkW a1 d1 ud ++ moW a2 d2 um) H := hP
  have hD : va_D A (dkW a1 d1 ud ++ moW a2 d2 um) := hD
  have hPc := hP.sub (ws' := moW a2 d2 um) [13, 14, 15, 16, 17, 18, 19, 20, 21, 22, 23, 24] rfl
  have hDc := hD.sub (ws' := moW a2 d2 um) [13, 14, 15, 16, 17, 18, 19, 20, 21, 22, 23, 24] (by decide) rfl
  have hKc := hK.sub (tys' := moTy d2) [12, 13, 14, 15, 16, 17, 18, 19, 20, 21, 22] rfl
  have hFc := va_free (wc := moW a2 d2 um) hD hS hA [13, 14, 15, 16, 17, 18, 19, 20, 21, 22, 23, 24] rfl
  refine va_calli (va_runV (As := As) (rest := st) ⟨hx, hb, hml, hown, hts⟩ (hM D a2 d2 H.size) (cwV na hts hw rfl rfl rfl hy hR) ⟨fun a U g mk q => by obtain ⟨q0, q1, qP, qK, qD⟩ := q; exact ⟨q0, q1, qP, va_K.moved (u := U) (U := U.calling g mk a) (Vm.Alike.refl U.vm) qK, qD⟩, by rw [hyc]; exact va_recv (ci := 1) (q0 := 0) hKc hPc rfl rfl, fun U hU hW => ⟨rfl, by rw [hU], by rw [hU]; exact hPc, va_K.moved hW.alike hKc, hDc.weaken (fun _ _ _ _ => trivial)⟩⟩ rfl hna h.1 hst (lv_room hs) hd ⟨Nat.le_refl _, Nat.le_refl _⟩) hS (fun q _ h => hFc q h) hFc (fun r u' t H1 locs1 ht hvm hp hB hz hk1 hS1 => ?_)
  obtain ⟨hP1, hK1, hD1⟩ := hB
  obtain ⟨hP2, hD2⟩ := va_join (wr := dkW a1 d1 ud) (w1 := moW a2 d2 u') hP hD [13, 14, 15, 16, 17, 18, 19, 20, 21, 22, 23, 24] [0, 1, 2, 3, 4, 5, 6, 7, 8, 9, 10, 11, 12] rfl rfl (by decide) (by decide) hk1 hFc (ht ▸ hP1) hD1
  exact kk r u' hp H1 locs1 ls hK (hP2.sub (ws' := dkW a1 d1 ud ++ moW a2 d2 u') [0, 1, 2, 3, 4, 5, 6, 7, 8, 9, 10, 11, 12, 13, 14, 15, 16, 17, 18, 19, 20, 21, 22, 23, 24] rfl) (hD2.sub (ws' := dkW a1 d1 ud ++ moW a2 d2 u') [0, 1, 2, 3, 4, 5, 6, 7, 8, 9, 10, 11, 12, 13, 14, 15, 16, 17, 18, 19, 20, 21, 22, 23, 24] (by decide) rfl) hS1 h
theorem ld_call_bring (g : gOk E cc R_law) (k : lOk E l a1 a2 b L xs) {f' n' : Nat} {v1 v2 v3 : Value} {ud um : dS} {post : Int32 → dS → Prop} (hd : decode cc pc = .ok (.invokevirtual 13, 3)) (hM : gMi dkC l yX0_bring cX0_bring 5 (some .int) (gR f' n') [v1, v2, v3] ud post) (hR : f' + 1 ≤ 10 ∧ 8 + (5 + 11) + n' ≤ 362) (hs : (st.map fun v => v.category).sum ≤ 8) (kk : ∀ (r : Int32) (u' : dS), post r u' → gG E (pc + 3) lv (.int r :: st) (u', um)) : gG E pc lv (v3 :: v2 :: v1 :: .ref (a1 0) :: st) (ud, um) := lcall1 g k rfl (lw_V q100 q101 q102 q31 q103) (na := 3) (by decide +kernel) rfl hM hR hd rfl hs kk
theorem ld_call_take (g : gOk E cc R_law) (k : lOk E l a1 a2 b L xs) {f' n' : Nat} {v1 : Value} {ud um : dS} {post : Int32 → dS → Prop} (hd : decode cc pc = .ok (.invokevirtual 18, 3)) (hM : gMi dkC l yX0_take cX0_take 2 (some .boolean) (gR f' n') [v1] ud post) (hR : f' + 1 ≤ 10 ∧ 8 + (2 + 11) + n' ≤ 362) (hs : (st.map fun v => v.category).sum ≤ 8) (kk : ∀ (r : Int32) (u' : dS), post r u' → gG E (pc + 3) lv (.int r :: st) (u', um)) : gG E pc lv (v1 :: .ref (a1 0) :: st) (ud, um) := lcall1 g k rfl (lw_V q147 q148 q149 q31 q150) (na := 1) (by decide +kernel) rfl hM hR hd rfl hs kk
theorem ld_call_block (g : gOk E cc R_law) (k : lOk E l a1 a2 b L xs) {f' n' : Nat} {v1 v2 : Value} {ud um : dS} {post : Int32 → dS → Prop} (hd : decode cc pc = .ok (.invokevirtual 23, 3)) (hM : gMi dkC l yX0_block cX0_block 4 (some .int) (gR f' n') [v1, v2] ud post) (hR : f' + 1 ≤ 10 ∧ 8 + (4 + 11) + n' ≤ 362) (hs : (st.map fun v => v.category).sum ≤ 8) (kk : ∀ (r : Int32) (u' : dS), post r u' → gG E (pc + 3) lv (.int r :: st) (u', um)) : gG E pc lv (v2 :: v1 :: .ref (a1 0) :: st) (ud, um) := lcall1 g k rfl (lw_V q151 q152 q153 q31 q154) (na := 2) (by decide +kernel) rfl hM hR hd rfl hs kk
theorem ld_call_change (g : gOk E cc R_law) (k : lOk E l a1 a2 b L xs) {f' n' : Nat} {v1 v2 : Value} {ud um : dS} {post : Int32 → dS → Prop} (hd : decode cc pc = .ok (.invokevirtual 28, 3)) (hM : gMi dkC l yX0_change cX0_change 4 (some .int) (gR f' n') [v1, v2] ud post) (hR : f' + 1 ≤ 10 ∧ 8 + (4 + 11) + n' ≤ 362) (hs : (st.map fun v => v.category).sum ≤ 8) (kk : ∀ (r : Int32) (u' : dS), post r u' → gG E (pc + 3) lv (.int r :: st) (u', um)) : gG E pc lv (v2 :: v1 :: .ref (a1 0) :: st) (ud, um) := lcall1 g k rfl (lw_V q155 q156 q157 q31 q158) (na := 2) (by decide +kernel) rfl hM hR hd rfl hs kk
theorem ld_call_tasks (g : gOk E cc R_law) (k : lOk E l a1 a2 b L xs) {f' n' : Nat} {ud um : dS} {post : Int32 → dS → Prop} (hd : decode cc pc = .ok (.invokevirtual 33, 3)) (hM : gMi dkC l yX0_tasks cX0_tasks 1 (some .int) (gR f' n') [] ud post) (hR : f' + 1 ≤ 10 ∧ 8 + (1 + 11) + n' ≤ 362) (hs : (st.map fun v => v.category).sum ≤ 8) (kk : ∀ (r : Int32) (u' : dS), post r u' → gG E (pc + 3) lv (.int r :: st) (u', um)) : gG E pc lv (.ref (a1 0) :: st) (ud, um) := lcall1 g k rfl (lw_V q159 q160 q161 q31 q162) (na := 0) (by decide +kernel) rfl hM hR hd rfl hs kk
theorem ld_call_blocked (g : gOk E cc R_law) (k : lOk E l a1 a2 b L xs) {f' n' : Nat} {ud um : dS} {post : Int32 → dS → Prop} (hd : decode cc pc = .ok (.invokevirtual 38, 3)) (hM : gMi dkC l yX0_blocked cX0_blocked 1 (some .int) (gR f' n') [] ud post) (hR : f' + 1 ≤ 10 ∧ 8 + (1 + 11) + n' ≤ 362) (hs : (st.map fun v => v.category).sum ≤ 8) (kk : ∀ (r : Int32) (u' : dS), post r u' → gG E (pc + 3) lv (.int r :: st) (u', um)) : gG E pc lv (.ref (a1 0) :: st) (ud, um) := lcall1 g k rfl (lw_V q163 q164 q165 q31 q166) (na := 0) (by decide +kernel) rfl hM hR hd rfl hs kk
theorem ld_call_loss (g : gOk E cc R_law) (k : lOk E l a1 a2 b L xs) {f' n' : Nat} {ud um : dS} {post : Int32 → dS → Prop} (hd : decode cc pc = .ok (.invokevirtual 42, 3)) (hM : gMi dkC l yX0_loss cX0_loss 1 (some .int) (gR f' n') [] ud post) (hR : f' + 1 ≤ 10 ∧ 8 + (1 + 11) + n' ≤ 362) (hs : (st.map fun v => v.category).sum ≤ 8) (kk : ∀ (r : Int32) (u' : dS), post r u' → gG E (pc + 3) lv (.int r :: st) (u', um)) : gG E pc lv (.ref (a1 0) :: st) (ud, um) := lcall1 g k rfl (lw_V q167 q168 q169 q31 q170) (na := 0) (by decide +kernel) rfl hM hR hd rfl hs kk
theorem ld_call_kept (g : gOk E cc R_law) (k : lOk E l a1 a2 b L xs) {f' n' : Nat} {v1 : Value} {ud um : dS} {post : Int32 → dS → Prop} (hd : decode cc pc = .ok (.invokevirtual 46, 3)) (hM : gMi dkC l yX0_kept cX0_kept 2 (some .int) (gR f' n') [v1] ud post) (hR : f' + 1 ≤ 10 ∧ 8 + (2 + 11) + n' ≤ 362) (hs : (st.map fun v => v.category).sum ≤ 8) (kk : ∀ (r : Int32) (u' : dS), post r u' → gG E (pc + 3) lv (.int r :: st) (u', um)) : gG E pc lv (v1 :: .ref (a1 0) :: st) (ud, um) := lcall1 g k rfl (lw_V q191 q192 q193 q31 q194) (na := 1) (by decide +kernel) rfl hM hR hd rfl hs kk
theorem ld_call_at (g : gOk E cc R_law) (k : lOk E l a1 a2 b L xs) {f' n' : Nat} {v1 : Value} {ud um : dS} {post : Int32 → dS → Prop} (hd : decode cc pc = .ok (.invokevirtual 51, 3)) (hM : gMi dkC l yX0_at cX0_at 2 (some .int) (gR f' n') [v1] ud post) (hR : f' + 1 ≤ 10 ∧ 8 + (2 + 11) + n' ≤ 362) (hs : (st.map fun v => v.category).sum ≤ 8) (kk : ∀ (r : Int32) (u' : dS), post r u' → gG E (pc + 3) lv (.int r :: st) (u', um)) : gG E pc lv (v1 :: .ref (a1 0) :: st) (ud, um) := lcall1 g k rfl (lw_V q195 q196 q197 q31 q198) (na := 1) (by decide +kernel) rfl hM hR hd rfl hs kk
theorem ld_call_greatestMust (g : gOk E cc R_law) (k : lOk E l a1 a2 b L xs) {f' n' : Nat} {v1 : Value} {ud um : dS} {post : Int32 → dS → Prop} (hd : decode cc pc = .ok (.invokevirtual 55, 3)) (hM : gMi dkC l yX0_greatestMust cX0_greatestMust 3 (some .int) (gR f' n') [v1] ud post) (hR : f' + 1 ≤ 10 ∧ 8 + (3 + 11) + n' ≤ 362) (hs : (st.map fun v => v.category).sum ≤ 8) (kk : ∀ (r : Int32) (u' : dS), post r u' → gG E (pc + 3) lv (.int r :: st) (u', um)) : gG E pc lv (v1 :: .ref (a1 0) :: st) (ud, um) := lcall1 g k rfl (lw_V q199 q200 q201 q31 q202) (na := 1) (by decide +kernel) rfl hM hR hd rfl hs kk
theorem ld_call_lossWithout (g : gOk E cc R_law) (k : lOk E l a1 a2 b L xs) {f' n' : Nat} {v1 : Value} {ud um : dS} {post : Int32 → dS → Prop} (hd : decode cc pc = .ok (.invokevirtual 59, 3)) (hM : gMi dkC l yX0_lossWithout cX0_lossWithout 3 (some .int) (gR f' n') [v1] ud post) (hR : f' + 1 ≤ 10 ∧ 8 + (3 + 11) + n' ≤ 362) (hs : (st.map fun v => v.category).sum ≤ 8) (kk : ∀ (r : Int32) (u' : dS), post r u' → gG E (pc + 3) lv (.int r :: st) (u', um)) : gG E pc lv (v1 :: .ref (a1 0) :: st) (ud, um) := lcall1 g k rfl (lw_V q203 q204 q205 q31 q206) (na := 1) (by decide +kernel) rfl hM hR hd rfl hs kk
theorem ld_call_freeable (g : gOk E cc R_law) (k : lOk E l a1 a2 b L xs) {f' n' : Nat} {v1 v2 : Value} {ud um : dS} {post : Int32 → dS → Prop} (hd : decode cc pc = .ok (.invokevirtual 63, 3)) (hM : gMi dkC l yX0_freeable cX0_freeable 9 (some .int) (gR f' n') [v1, v2] ud post) (hR : f' + 1 ≤ 10 ∧ 8 + (9 + 11) + n' ≤ 362) (hs : (st.map fun v => v.category).sum ≤ 8) (kk : ∀ (r : Int32) (u' : dS), post r u' → gG E (pc + 3) lv (.int r :: st) (u', um)) : gG E pc lv (v2 :: v1 :: .ref (a1 0) :: st) (ud, um) := lcall1 g k rfl (lw_V q207 q208 q209 q31 q210) (na := 2) (by decide +kernel) rfl hM hR hd rfl hs kk
theorem ld_call_idle (g : gOk E cc R_law) (k : lOk E l a1 a2 b L xs) {f' n' : Nat} {ud um : dS} {post : Int32 → dS → Prop} (hd : decode cc pc = .ok (.invokevirtual 67, 3)) (hM : gMi dkC l yX0_idle cX0_idle 3 (some .int) (gR f' n') [] ud post) (hR : f' + 1 ≤ 10 ∧ 8 + (3 + 11) + n' ≤ 362) (hs : (st.map fun v => v.category).sum ≤ 8) (kk : ∀ (r : Int32) (u' : dS), post r u' → gG E (pc + 3) lv (.int r :: st) (u', um)) : gG E pc lv (.ref (a1 0) :: st) (ud, um) := lcall1 g k rfl (lw_V q217 q218 q219 q31 q220) (na := 0) (by decide +kernel) rfl hM hR hd rfl hs kk
theorem lm_call_bring (g : gOk E cc R_law) (k : lOk E l a1 a2 b L xs) {f' n' : Nat} {v1 v2 v3 : Value} {ud um : dS} {post : Int32 → dS → Prop} (hd : decode cc pc = .ok (.invokevirtual 17, 3)) (hM : gMi moC l yX1_bring cX1_bring 5 (some .int) (gR f' n') [v1, v2, v3] um post) (hR : f' + 1 ≤ 10 ∧ 8 + (5 + 11) + n' ≤ 362) (hs : (st.map fun v => v.category).sum ≤ 8) (kk : ∀ (r : Int32) (u' : dS), post r u' → gG E (pc + 3) lv (.int r :: st) (ud, u')) : gG E pc lv (v3 :: v2 :: v1 :: .ref (a2 0) :: st) (ud, um) := lcall2 g k rfl (lw_V q269 q270 q271 q32 q272) (na := 3) (by decide +kernel) rfl hM hR hd rfl hs kk
theorem lm_call_take (g : gOk E cc R_law) (k : lOk E l a1 a2 b L xs) {f' n' : Nat} {v1 : Value} {ud um : dS} {post : Int32 → dS → Prop} (hd : decode cc pc = .ok (.invokevirtual 22, 3)) (hM : gMi moC l yX1_take cX1_take 2 (some .boolean) (gR f' n') [v1] um post) (hR : f' + 1 ≤ 10 ∧ 8 + (2 + 11) + n' ≤ 362) (hs : (st.map fun v => v.category).sum ≤ 8) (kk : ∀ (r : Int32) (u' : dS), post r u' → gG E (pc + 3) lv (.int r :: st) (ud, u')) : gG E pc lv (v1 :: .ref (a2 0) :: st) (ud, um) := lcall2 g k rfl (lw_V q297 q298 q299 q32 q300) (na := 1) (by decide +kernel) rfl hM hR hd rfl hs kk
theorem lm_call_block (g : gOk E cc R_law) (k : lOk E l a1 a2 b L xs) {f' n' : Nat} {v1 v2 : Value} {ud um : dS} {post : Int32 → dS → Prop} (hd : decode cc pc = .ok (.invokevirtual 27, 3)) (hM : gMi moC l yX1_block cX1_block 4 (some .int) (gR f' n') [v1, v2] um post) (hR : f' + 1 ≤ 10 ∧ 8 + (4 + 11) + n' ≤ 362) (hs : (st.map fun v => v.category).sum ≤ 8) (kk : ∀ (r : Int32) (u' : dS), post r u' → gG E (pc + 3) lv (.int r :: st) (ud, u')) : gG E pc lv (v2 :: v1 :: .ref (a2 0) :: st) (ud, um) := lcall2 g k rfl (lw_V q305 q306 q307 q32 q308) (na := 2) (by decide +kernel) rfl hM hR hd rfl hs kk
theorem lm_call_change (g : gOk E cc R_law) (k : lOk E l a1 a2 b L xs) {f' n' : Nat} {v1 v2 : Value} {ud um : dS} {post : Int32 → dS → Prop} (hd : decode cc pc = .ok (.invokevirtual 32, 3)) (hM : gMi moC l yX1_change cX1_change 4 (some .int) (gR f' n') [v1, v2] um post) (hR : f' + 1 ≤ 10 ∧ 8 + (4 + 11) + n' ≤ 362) (hs : (st.map fun v => v.category).sum ≤ 8) (kk : ∀ (r : Int32) (u' : dS), post r u' → gG E (pc + 3) lv (.int r :: st) (ud, u')) : gG E pc lv (v2 :: v1 :: .ref (a2 0) :: st) (ud, um) := lcall2 g k rfl (lw_V q309 q310 q311 q32 q312) (na := 2) (by decide +kernel) rfl hM hR hd rfl hs kk
theorem lm_call_tasks (g : gOk E cc R_law) (k : lOk E l a1 a2 b L xs) {f' n' : Nat} {ud um : dS} {post : Int32 → dS → Prop} (hd : decode cc pc = .ok (.invokevirtual 37, 3)) (hM : gMi moC l yX1_tasks cX1_tasks 3 (some .int) (gR f' n') [] um post) (hR : f' + 1 ≤ 10 ∧ 8 + (3 + 11) + n' ≤ 362) (hs : (st.map fun v => v.category).sum ≤ 8) (kk : ∀ (r : Int32) (u' : dS), post r u' → gG E (pc + 3) lv (.int r :: st) (ud, u')) : gG E pc lv (.ref (a2 0) :: st) (ud, um) := lcall2 g k rfl (lw_V q313 q314 q315 q32 q316) (na := 0) (by decide +kernel) rfl hM hR hd rfl hs kk
theorem lm_call_blocked (g : gOk E cc R_law) (k : lOk E l a1 a2 b L xs) {f' n' : Nat} {ud um : dS} {post : Int32 → dS → Prop} (hd : decode cc pc = .ok (.invokevirtual 41, 3)) (hM : gMi moC l yX1_blocked cX1_blocked 1 (some .int) (gR f' n') [] um post) (hR : f' + 1 ≤ 10 ∧ 8 + (1 + 11) + n' ≤ 362) (hs : (st.map fun v => v.category).sum ≤ 8) (kk : ∀ (r : Int32) (u' : dS), post r u' → gG E (pc + 3) lv (.int r :: st) (ud, u')) : gG E pc lv (.ref (a2 0) :: st) (ud, um) := lcall2 g k rfl (lw_V q317 q318 q319 q32 q320) (na := 0) (by decide +kernel) rfl hM hR hd rfl hs kk
theorem lm_call_loss (g : gOk E cc R_law) (k : lOk E l a1 a2 b L xs) {f' n' : Nat} {ud um : dS} {post : Int32 → dS → Prop} (hd : decode cc pc = .ok (.invokevirtual 45, 3)) (hM : gMi moC l yX1_loss cX1_loss 1 (some .int) (gR f' n') [] um post) (hR : f' + 1 ≤ 10 ∧ 8 + (1 + 11) + n' ≤ 362) (hs : (st.map fun v => v.category).sum ≤ 8) (kk : ∀ (r : Int32) (u' : dS), post r u' → gG E (pc + 3) lv (.int r :: st) (ud, u')) : gG E pc lv (.ref (a2 0) :: st) (ud, um) := lcall2 g k rfl (lw_V q321 q322 q323 q32 q324) (na := 0) (by decide +kernel) rfl hM hR hd rfl hs kk
theorem lm_call_kept (g : gOk E cc R_law) (k : lOk E l a1 a2 b L xs) {f' n' : Nat} {v1 : Value} {ud um : dS} {post : Int32 → dS → Prop} (hd : decode cc pc = .ok (.invokevirtual 50, 3)) (hM : gMi moC l yX1_kept cX1_kept 2 (some .int) (gR f' n') [v1] um post) (hR : f' + 1 ≤ 10 ∧ 8 + (2 + 11) + n' ≤ 362) (hs : (st.map fun v => v.category).sum ≤ 8) (kk : ∀ (r : Int32) (u' : dS), post r u' → gG E (pc + 3) lv (.int r :: st) (ud, u')) : gG E pc lv (v1 :: .ref (a2 0) :: st) (ud, um) := lcall2 g k rfl (lw_V q355 q356 q357 q32 q358) (na := 1) (by decide +kernel) rfl hM hR hd rfl hs kk
theorem lm_call_at (g : gOk E cc R_law) (k : lOk E l a1 a2 b L xs) {f' n' : Nat} {v1 : Value} {ud um : dS} {post : Int32 → dS → Prop} (hd : decode cc pc = .ok (.invokevirtual 54, 3)) (hM : gMi moC l yX1_at cX1_at 4 (some .int) (gR f' n') [v1] um post) (hR : f' + 1 ≤ 10 ∧ 8 + (4 + 11) + n' ≤ 362) (hs : (st.map fun v => v.category).sum ≤ 8) (kk : ∀ (r : Int32) (u' : dS), post r u' → gG E (pc + 3) lv (.int r :: st) (ud, u')) : gG E pc lv (v1 :: .ref (a2 0) :: st) (ud, um) := lcall2 g k rfl (lw_V q359 q360 q361 q32 q362) (na := 1) (by decide +kernel) rfl hM hR hd rfl hs kk
theorem lm_call_greatestMust (g : gOk E cc R_law) (k : lOk E l a1 a2 b L xs) {f' n' : Nat} {v1 : Value} {ud um : dS} {post : Int32 → dS → Prop} (hd : decode cc pc = .ok (.invokevirtual 58, 3)) (hM : gMi moC l yX1_greatestMust cX1_greatestMust 5 (some .int) (gR f' n') [v1] um post) (hR : f' + 1 ≤ 10 ∧ 8 + (5 + 11) + n' ≤ 362) (hs : (st.map fun v => v.category).sum ≤ 8) (kk : ∀ (r : Int32) (u' : dS), post r u' → gG E (pc + 3) lv (.int r :: st) (ud, u')) : gG E pc lv (v1 :: .ref (a2 0) :: st) (ud, um) := lcall2 g k rfl (lw_V q367 q368 q369 q32 q370) (na := 1) (by decide +kernel) rfl hM hR hd rfl hs kk
theorem lm_call_lossWithout (g : gOk E cc R_law) (k : lOk E l a1 a2 b L xs) {f' n' : Nat} {v1 : Value} {ud um : dS} {post : Int32 → dS → Prop} (hd : decode cc pc = .ok (.invokevirtual 62, 3)) (hM : gMi moC l yX1_lossWithout cX1_lossWithout 4 (some .int) (gR f' n') [v1] um post) (hR : f' + 1 ≤ 10 ∧ 8 + (4 + 11) + n' ≤ 362) (hs : (st.map fun v => v.category).sum ≤ 8) (kk : ∀ (r : Int32) (u' : dS), post r u' → gG E (pc + 3) lv (.int r :: st) (ud, u')) : gG E pc lv (v1 :: .ref (a2 0) :: st) (ud, um) := lcall2 g k rfl (lw_V q371 q372 q373 q32 q374) (na := 1) (by decide +kernel) rfl hM hR hd rfl hs kk
theorem lm_call_freeable (g : gOk E cc R_law) (k : lOk E l a1 a2 b L xs) {f' n' : Nat} {v1 v2 : Value} {ud um : dS} {post : Int32 → dS → Prop} (hd : decode cc pc = .ok (.invokevirtual 66, 3)) (hM : gMi moC l yX1_freeable cX1_freeable 6 (some .int) (gR f' n') [v1, v2] um post) (hR : f' + 1 ≤ 10 ∧ 8 + (6 + 11) + n' ≤ 362) (hs : (st.map fun v => v.category).sum ≤ 8) (kk : ∀ (r : Int32) (u' : dS), post r u' → gG E (pc + 3) lv (.int r :: st) (ud, u')) : gG E pc lv (v2 :: v1 :: .ref (a2 0) :: st) (ud, um) := lcall2 g k rfl (lw_V q375 q376 q377 q32 q378) (na := 2) (by decide +kernel) rfl hM hR hd rfl hs kk
theorem lm_call_idle (g : gOk E cc R_law) (k : lOk E l a1 a2 b L xs) {f' n' : Nat} {ud um : dS} {post : Int32 → dS → Prop} (hd : decode cc pc = .ok (.invokevirtual 70, 3)) (hM : gMi moC l yX1_idle cX1_idle 3 (some .int) (gR f' n') [] um post) (hR : f' + 1 ≤ 10 ∧ 8 + (3 + 11) + n' ≤ 362) (hs : (st.map fun v => v.category).sum ≤ 8) (kk : ∀ (r : Int32) (u' : dS), post r u' → gG E (pc + 3) lv (.int r :: st) (ud, u')) : gG E pc lv (.ref (a2 0) :: st) (ud, um) := lcall2 g k rfl (lw_V q380 q381 q382 q32 q383) (na := 0) (by decide +kernel) rfl hM hR hd rfl hs kk
end
end
section
/-! both contracts of a method agree, and the invariant zI is kept -/
def zI (σ : zT) (ud um : dS) : Prop := zOk σ ∧ zD σ ud ∧ zM σ um ∧ zfit σ ∧ zKn σ ud
def lJ (P Q : Int32 → dS → Prop) : Prop := ∀ (r : Int32) (u : dS) (r' : Int32) (v : dS), P r u → Q r' v → r = r' ∧ ∃ σ, zI σ u v
def zσ0 : zT := (fun _ => false, fun _ _ => 0, 0)
theorem zI_0 : zI zσ0 z0 z0 := by
  refine ⟨fun j _ => ⟨Nat.zero_le _, Nat.zero_le _, Nat.zero_le _, Nat.zero_le _, Nat.zero_le _⟩, ⟨⟨fun k _ _ j _ => ?_, rfl⟩, fun j hj => ?_⟩, ⟨⟨fun k _ _ j _ => ?_, rfl⟩, fun j hj => rfl⟩, ?_, Or.inl rfl⟩
  · exact nI_0.symm
  · show bt 0 j = (decide (j < 6) && false)
    rw [b_0, Bool.and_false]
  · exact nI_0.symm
  · intro S
    have e : zw (zmu zσ0) S = 0 := zs_zero (fun j _ => by
      show (if S j = true then zmu zσ0 j else 0) = 0
      have : zmu zσ0 j = 0 := rfl
      rw [this]
      split <;> rfl)
    rw [e]
    exact Nat.zero_le _
/-- the arguments of a span or a window, when they are not bad -/
theorem zwin {x y : Int32} (h1 : ¬ x < 0) (h2 : ¬ nI 24 < y) (h3 : ¬ y ≤ x) : ∃ p q, x = nI p ∧ y = nI q ∧ p < q ∧ q ≤ 24 := by
  have h4 : ¬ y < 0 := fun z => by
    rw [Int32.lt_iff_toInt_lt, Int32.toInt_zero] at h1 z
    rw [Int32.le_iff_toInt_le] at h3
    omega
  obtain ⟨p, p1, rfl⟩ := nI_of h1
  obtain ⟨q, q1, rfl⟩ := nI_of h4
  rw [nI_ltI (by omega) q1] at h2
  rw [nI_leI q1 p1] at h3
  exact ⟨p, q, rfl, rfl, by omega, by omega⟩
/-- a task's number, present, or not -/
theorem zh_cases (th : Nat → Bool) (x : Int32) : zh th x = false ∨ ∃ j, j < 6 ∧ x = nI j ∧ th j = true := by
  rcases n_in x 6 (by decide) with h | ⟨j, hj, rfl⟩
  · exact Or.inl (zh_out h)
  · rw [zh_in hj]
    cases h : th j with
    | false => exact Or.inl rfl
    | true => exact Or.inr ⟨j, hj, rfl, h⟩
theorem zfirst (th : Nat → Bool) : ∃ j0, j0 ≤ 6 ∧ (∀ i, i < j0 → th i = true) ∧ (j0 < 6 → th j0 = false) := by
  obtain ⟨n, a, b, d⟩ := zmaxn (fun n => ∀ i, i < n → th i = true) (fun i hi => absurd hi (by omega)) 6
  refine ⟨n, a, b, fun hn => ?_⟩
  cases h : th n with
  | false => rfl
  | true =>
    refine absurd (show ∀ i, i < n + 1 → th i = true from fun i hi => ?_) (d hn)
    by_cases hin : i = n
    · rw [hin]; exact h
    · exact b i (by omega)
theorem lq_bring (l : Launch) {σ : zT} {ud um : dS} (hI : zI σ ud um) (x y z : Int32) : ∃ P Q, gMi dkC l yX0_bring cX0_bring 5 (some .int) (gR 6 132) [.int x, .int y, .int z] ud P ∧ gMi moC l yX1_bring cX1_bring 5 (some .int) (gR 3 68) [.int x, .int y, .int z] um Q ∧ lJ P Q := by
  by_cases hbad : zbad x y z
  · refine ⟨_, _, met_bring_bad l ud x y z hbad, mot_bring_bad l um x y z hbad, ?_⟩
    rintro r u r' v ⟨h1, h2⟩ ⟨h3, h4⟩
    subst h2 h4
    exact ⟨h1.trans h3.symm, σ, hI⟩
  · unfold zbad at hbad
    have hz : zpkP z := Classical.byContradiction (fun q => hbad (Or.inr (Or.inr (Or.inr q))))
    obtain ⟨p, q, rfl, rfl, hpq, hq⟩ := zwin (fun q => hbad (Or.inl q)) (fun q => hbad (Or.inr (Or.inl q))) (fun q => hbad (Or.inr (Or.inr (Or.inl q))))
    obtain ⟨a, b, w, hx, ha, hb, -, hw⟩ := zpk_of hz
    obtain ⟨j0, c1, c2, c3⟩ := zfirst σ.1
    obtain ⟨hs, hD, hM, hF, hK⟩ := hI
    refine ⟨_, _, met_bring l hs hD hpq hq hz hx ha hb hw c1 c2 c3, mot_bring l hs hM hpq hq hz hx ha hb hw c1 c2 c3, ?_⟩
    rintro r u r' v ⟨h1, h2⟩ ⟨h3, h4⟩
    by_cases hj : j0 = 6
    · obtain ⟨e1, e2⟩ := h1 hj
      obtain ⟨e3, e4⟩ := h3 hj
      subst e2 e4
      exact ⟨e1.trans e3.symm, σ, hs, hD, hM, hF, hK⟩
    · have hj6 : j0 < 6 := by omega
      by_cases hf : zfit (zbr σ (zth σ.1 j0 true) j0 p q a b w)
      · obtain ⟨e1, e2, e3⟩ := (h2 hj6).1 hf
        obtain ⟨e4, e5⟩ := (h4 hj6).1 hf
        exact ⟨e1.trans e4.symm, _, zbr_ok hs (by omega) hq ha hb hw, e2, e5, hf, Or.inl e3⟩
      · obtain ⟨e1, e2, e3⟩ := (h2 hj6).2 hf
        obtain ⟨e4, e5⟩ := (h4 hj6).2 hf
        exact ⟨e1.trans e4.symm, _, zbr_ok hs (by omega) hq ha hb hw, e2, e5, zbr_fit hF (c3 hj6), Or.inl e3⟩
theorem lq_take (l : Launch) {σ : zT} {ud um : dS} (hI : zI σ ud um) (x : Int32) : ∃ P Q, gMi dkC l yX0_take cX0_take 2 (some .boolean) (gR 1 21) [.int x] ud P ∧ gMi moC l yX1_take cX1_take 2 (some .boolean) (gR 1 21) [.int x] um Q ∧ lJ P Q := by
  obtain ⟨hs, hD, hM, hF, hK⟩ := hI
  refine ⟨_, _, met_take l hD x, mot_take l hM x, ?_⟩
  rintro r u r' v ⟨h1, h2⟩ ⟨h3, h4⟩
  rcases zh_cases σ.1 x with h | ⟨j, hj, hx, ht⟩
  · obtain ⟨e1, e2⟩ := h1 h
    obtain ⟨e3, e4⟩ := h3 h
    subst e2 e4
    exact ⟨e1.trans e3.symm, σ, hs, hD, hM, hF, hK⟩
  · obtain ⟨e1, e2, e3⟩ := h2 j hj hx ht
    obtain ⟨e4, e5⟩ := h4 j hj hx ht
    exact ⟨e1.trans e4.symm, (zth σ.1 j false, σ.2.1, σ.2.2), hs, e2, e5, zfit_take hF j, Or.inl e3⟩
theorem lq_block (l : Launch) {σ : zT} {ud um : dS} (hI : zI σ ud um) (x : Int32) (b : Bool) : ∃ P Q, gMi dkC l yX0_block cX0_block 4 (some .int) (gR 6 132) [.int x, .int (bI b)] ud P ∧ gMi moC l yX1_block cX1_block 4 (some .int) (gR 3 68) [.int x, .int (bI b)] um Q ∧ lJ P Q := by
  obtain ⟨hs, hD, hM, hF, hK⟩ := hI
  refine ⟨_, _, met_block l hs hD hK x b, mot_block l hs hM x b, ?_⟩
  rintro r u r' v ⟨h1, h2⟩ ⟨h3, h4⟩
  rcases n_in x 24 (by decide) with h | ⟨t, ht, hx⟩
  · obtain ⟨e1, e2⟩ := h1 h
    obtain ⟨e3, e4⟩ := h3 h
    subst e2 e4
    exact ⟨e1.trans e3.symm, σ, hs, hD, hM, hF, hK⟩
  · by_cases hf : zfit (σ.1, σ.2.1, zbl σ.2.2 t b)
    · obtain ⟨e1, e2, e3⟩ := (h2 t ht hx).1 hf
      obtain ⟨e4, e5⟩ := (h4 t ht hx).1 hf
      exact ⟨e1.trans e4.symm, (σ.1, σ.2.1, zbl σ.2.2 t b), hs, e2, e5, hf, Or.inl e3⟩
    · obtain ⟨e1, e2, e3⟩ := (h2 t ht hx).2 hf
      obtain ⟨e4, e5⟩ := (h4 t ht hx).2 hf
      exact ⟨e1.trans e4.symm, σ, hs, e2, e5, hF, e3⟩
theorem lq_change (l : Launch) {σ : zT} {ud um : dS} (hI : zI σ ud um) (x y : Int32) : ∃ P Q, gMi dkC l yX0_change cX0_change 4 (some .int) (gR 6 132) [.int x, .int y] ud P ∧ gMi moC l yX1_change cX1_change 4 (some .int) (gR 3 68) [.int x, .int y] um Q ∧ lJ P Q := by
  obtain ⟨hs, hD, hM, hF, hK⟩ := hI
  by_cases hbad : zh σ.1 x = false ∨ ¬ zpkP y
  · refine ⟨_, _, met_change_bad l hD x y hbad, mot_change_bad l hM x y hbad, ?_⟩
    rintro r u r' v ⟨h1, h2⟩ ⟨h3, h4⟩
    subst h2 h4
    exact ⟨h1.trans h3.symm, σ, hs, hD, hM, hF, hK⟩
  · have hy : zpkP y := Classical.byContradiction (fun q => hbad (Or.inr q))
    rcases zh_cases σ.1 x with h | ⟨j, hj, rfl, ht⟩
    · exact absurd (Or.inl h) hbad
    · obtain ⟨a, b, w, hx, ha, hb, -, hw⟩ := zpk_of hy
      refine ⟨_, _, met_change l hs hD hj ht hy hx ha hb hw, mot_change l hs hM hj ht hy hx ha hb hw, ?_⟩
      rintro r u r' v ⟨h1, h2⟩ ⟨h3, h4⟩
      by_cases hf : zfit (zst3 σ j a b w)
      · obtain ⟨e1, e2, e3⟩ := h1 hf
        obtain ⟨e4, e5⟩ := h3 hf
        exact ⟨e1.trans e4.symm, _, zst3_ok hs ha hb hw, e2, e5, hf, Or.inl e3⟩
      · obtain ⟨e1, e2, e3⟩ := h2 hf
        obtain ⟨e4, e5⟩ := h4 hf
        exact ⟨e1.trans e4.symm, σ, hs, e2, e5, hF, Or.inl e3⟩
theorem lq_tasks (l : Launch) {σ : zT} {ud um : dS} (hI : zI σ ud um) : ∃ P Q, gMi dkC l yX0_tasks cX0_tasks 1 (some .int) (gR 0 0) [] ud P ∧ gMi moC l yX1_tasks cX1_tasks 3 (some .int) (gR 0 0) [] um Q ∧ lJ P Q := by
  have hI' := hI
  obtain ⟨hs, hD, hM, hF, hK⟩ := hI
  refine ⟨_, _, met_tasks l hD, mot_tasks l hM, ?_⟩
  rintro r u r' v ⟨h1, h2⟩ ⟨h3, h4⟩
  subst h1 h3
  exact ⟨b_ext (fun i hi => (h2 i hi).trans (h4 i hi).symm), σ, hI'⟩
theorem lq_blocked (l : Launch) {σ : zT} {ud um : dS} (hI : zI σ ud um) : ∃ P Q, gMi dkC l yX0_blocked cX0_blocked 1 (some .int) (gR 0 0) [] ud P ∧ gMi moC l yX1_blocked cX1_blocked 1 (some .int) (gR 0 0) [] um Q ∧ lJ P Q := by
  have hI' := hI
  obtain ⟨hs, hD, hM, hF, hK⟩ := hI
  refine ⟨_, _, met_blocked l hD, mot_blocked l hM, ?_⟩
  rintro r u r' v ⟨h1, h2⟩ ⟨h3, h4⟩
  subst h1 h3
  exact ⟨h2.trans h4.symm, σ, hI'⟩
theorem lq_loss (l : Launch) {σ : zT} {ud um : dS} (hI : zI σ ud um) : ∃ P Q, gMi dkC l yX0_loss cX0_loss 1 (some .int) (gR 7 159) [] ud P ∧ gMi moC l yX1_loss cX1_loss 1 (some .int) (gR 3 71) [] um Q ∧ lJ P Q := by
  obtain ⟨hs, hD, hM, hF, hK⟩ := hI
  refine ⟨_, _, met_loss l hs hD hF hK, mot_loss l hs hM hF, ?_⟩
  rintro r u r' v ⟨h1, h2, h3, h4⟩ ⟨h5, h6⟩
  have h3' := h3
  obtain ⟨od, m0, K, p, W, a1, a2, -, a4, -, -⟩ := h3
  obtain ⟨od', c', K', b1, b2, b3, -⟩ := h6
  refine ⟨?_, σ, hs, h1, h5, hF, Or.inr ⟨h2, h3'⟩⟩
  rw [h4, a4, b3, zlost_cg (zGr_u a1 b1 a2 b2)]
theorem lq_kept (l : Launch) {σ : zT} {ud um : dS} (hI : zI σ ud um) (x : Int32) : ∃ P Q, gMi dkC l yX0_kept cX0_kept 2 (some .int) (gR 7 159) [.int x] ud P ∧ gMi moC l yX1_kept cX1_kept 2 (some .int) (gR 3 71) [.int x] um Q ∧ lJ P Q := by
  obtain ⟨hs, hD, hM, hF, hK⟩ := hI
  refine ⟨_, _, met_kept l hs hD hF hK x, mot_kept l hs hM hF x, ?_⟩
  rintro r u r' v ⟨h1, h2⟩ ⟨h3, h4, h5⟩
  rcases zh_cases σ.1 x with h | ⟨j, hj, hx, ht⟩
  · obtain ⟨e1, e2⟩ := h1 h
    subst e2
    exact ⟨e1.trans (h4 h).symm, σ, hs, hD, h3, hF, hK⟩
  · obtain ⟨e1, e2, e3, e4⟩ := h2 j hj hx ht
    obtain ⟨q, e5, e6⟩ := h5 j hj hx ht
    have e3' := e3
    obtain ⟨od, m0, K, p, W, a1, a2, a3, -, -, -⟩ := e3
    obtain ⟨od', c', K', b1, b2, -, b4⟩ := e5
    refine ⟨?_, σ, hs, e1, h3, hF, Or.inr ⟨e2, e3'⟩⟩
    rw [e4, e6, a3 j hj ht, b4 j hj ht, zGr_u a1 b1 a2 b2 j hj ht]
theorem zPl_cg {σ : zT} {w0 w1 p : Nat → Nat} {W : Nat → Nat → Nat} {n : Nat} (h : zPl σ w0 n p W) (hw : ∀ j, j < 6 → w0 j = w1 j) : zPl σ w1 n p W := ⟨fun j hj => (h.1 j hj).trans (hw j hj), h.2⟩
theorem zw0_cg {σ : zT} {K K' : Nat → Nat} (h : ∀ j, j < 6 → σ.1 j = true → K j = K' j) {j : Nat} (hj : j < 6) : zw0 σ K j = zw0 σ K' j := by
  unfold zw0
  by_cases ht : σ.1 j = true
  · rw [if_pos ht, if_pos ht, h j hj ht]
  · rw [if_neg ht, if_neg ht]
theorem lq_at (l : Launch) {σ : zT} {ud um : dS} (hI : zI σ ud um) (x : Int32) : ∃ P Q, gMi dkC l yX0_at cX0_at 2 (some .int) (gR 7 159) [.int x] ud P ∧ gMi moC l yX1_at cX1_at 4 (some .int) (gR 3 71) [.int x] um Q ∧ lJ P Q := by
  obtain ⟨hs, hD, hM, hF, hK⟩ := hI
  refine ⟨_, _, met_at l hs hD hF hK x, mot_at l hs hM hF x, ?_⟩
  rintro r u r' v ⟨h1, h2⟩ ⟨h3, h4, h5⟩
  rcases n_in x 24 (by decide) with h | ⟨t, ht, hx⟩
  · obtain ⟨e1, e2⟩ := h1 h
    subst e2
    exact ⟨e1.trans (h4 h).symm, σ, hs, hD, h3, hF, hK⟩
  · obtain ⟨e1, e2, e3, e4⟩ := h2 t ht hx
    obtain ⟨od', c', K', p', W', b1, b2, b3, b4⟩ := h5 t ht hx
    have e3' := e3
    obtain ⟨od, m0, K, p, W, a1, a2, -, -, a5, a6⟩ := e3
    refine ⟨?_, σ, hs, e1, h3, hF, Or.inr ⟨e2, e3'⟩⟩
    have hp : p t = p' t := zPl_det (zPl_cg a5 (fun j hj => zw0_cg (zGr_u a1 b1 a2 b2) hj)) b3 t ht (Nat.lt_succ_self t)
    rw [e4, a6 t ht, hp, b4]
theorem lq_greatestMust (l : Launch) {σ : zT} {ud um : dS} (hI : zI σ ud um) (x : Int32) : ∃ P Q, gMi dkC l yX0_greatestMust cX0_greatestMust 3 (some .int) (gR 5 112) [.int x] ud P ∧ gMi moC l yX1_greatestMust cX1_greatestMust 5 (some .int) (gR 3 68) [.int x] um Q ∧ lJ P Q := by
  obtain ⟨hs, hD, hM, hF, hK⟩ := hI
  refine ⟨_, _, met_greatestMust l hs hD hF x, mot_greatestMust l hs hM hF x, ?_⟩
  rintro r u r' v ⟨h1, h2⟩ ⟨h3, h4⟩
  rcases zh_cases σ.1 x with h | ⟨j, hj, hx, ht⟩
  · obtain ⟨e1, e2⟩ := h1 h
    obtain ⟨e3, e4⟩ := h3 h
    subst e2 e4
    exact ⟨e1.trans e3.symm, σ, hs, hD, hM, hF, hK⟩
  · obtain ⟨hf, n, a1, a2, a3, a4⟩ := h2 j hj hx ht
    obtain ⟨hm, n', b1, b2, b3, b4⟩ := h4 j hj hx ht
    refine ⟨?_, σ, hs, hD.fr hf (by decide) (by decide), hm, hF, hK.fr hf (by decide) (by decide)⟩
    have hn : n = n' := by
      rcases Nat.lt_trichotomy n n' with z | z | z
      · exact absurd (zgm_le b3 z) (a4 (by omega))
      · exact z
      · exact absurd (zgm_le a3 z) (b4 (by omega))
    rw [a2, b2, hn]
theorem lq_lossWithout (l : Launch) {σ : zT} {ud um : dS} (hI : zI σ ud um) (x : Int32) : ∃ P Q, gMi dkC l yX0_lossWithout cX0_lossWithout 3 (some .int) (gR 6 138) [.int x] ud P ∧ gMi moC l yX1_lossWithout cX1_lossWithout 4 (some .int) (gR 3 71) [.int x] um Q ∧ lJ P Q := by
  obtain ⟨hs, hD, hM, hF, hK⟩ := hI
  obtain ⟨od, m0, hO⟩ := zOrd_ex σ
  refine ⟨_, _, met_lossWithout l hs hD hO x, mot_lossWithout l hs hM x, ?_⟩
  rintro r u r' v ⟨h1, h2⟩ ⟨h3, h4⟩
  rcases n_in x 24 (by decide) with h | ⟨t, ht, hx⟩
  · obtain ⟨e1, e2⟩ := h1 h
    obtain ⟨e3, e4⟩ := h3 h
    subst e2 e4
    exact ⟨e1.trans e3.symm, σ, hs, hD, hM, hF, hK⟩
  · obtain ⟨e1, e2, e3⟩ := h2 t ht hx
    obtain ⟨e4, e5⟩ := h4 t ht hx
    refine ⟨?_, σ, hs, e1, e4, hF, Or.inl e2⟩
    rcases e3 with ⟨a1, a2⟩ | ⟨K, a1, a2⟩
    · rcases e5 with ⟨b1, -⟩ | ⟨b1, -⟩
      · rw [a1, b1]
      · exact absurd b1 a2
    · rcases e5 with ⟨-, b2⟩ | ⟨-, od', m', K', b2, b3, b4⟩
      · exact absurd (zhall_mono (fun i _ => Nat.le_add_right _ _) a1.1) b2
      · rw [a2, b4, zlost_cg (zGr_u hO b2 a1 b3)]
theorem lq_freeable (l : Launch) {σ : zT} {ud um : dS} (hI : zI σ ud um) (x y : Int32) : ∃ P Q, gMi dkC l yX0_freeable cX0_freeable 9 (some .int) (gR 3 68) [.int x, .int y] ud P ∧ gMi moC l yX1_freeable cX1_freeable 6 (some .int) (gR 4 91) [.int x, .int y] um Q ∧ lJ P Q := by
  obtain ⟨hs, hD, hM, hF, hK⟩ := hI
  by_cases hbad : zfb x y
  · refine ⟨_, _, met_freeable_bad l ud x y hbad, mot_freeable_bad l um x y hbad, ?_⟩
    rintro r u r' v ⟨h1, h2⟩ ⟨h3, h4⟩
    subst h2 h4
    exact ⟨h1.trans h3.symm, σ, hs, hD, hM, hF, hK⟩
  · unfold zfb at hbad
    obtain ⟨p, q, rfl, rfl, hpq, hq⟩ := zwin (fun q => hbad (Or.inl q)) (fun q => hbad (Or.inr (Or.inl q))) (fun q => hbad (Or.inr (Or.inr q)))
    refine ⟨_, _, met_freeable l hs hD hpq hq, mot_freeable l hs hM hF hpq hq, ?_⟩
    rintro r u r' v ⟨h1, w, h2, h3⟩ ⟨h4, B2, h5, h6⟩
    refine ⟨?_, σ, hs, hD.fr h1 (by decide) (by decide), h4, hF, hK.fr h1 (by decide) (by decide)⟩
    obtain ⟨e1, e2⟩ := zfree_eq h2 h5
    rw [h3, h6, pk_sub e1, pk_sub (by omega)]
    congr 1
    omega
theorem lq_idle (l : Launch) {σ : zT} {ud um : dS} (hI : zI σ ud um) : ∃ P Q, gMi dkC l yX0_idle cX0_idle 3 (some .int) (gR 7 159) [] ud P ∧ gMi moC l yX1_idle cX1_idle 3 (some .int) (gR 3 71) [] um Q ∧ lJ P Q := by
  obtain ⟨hs, hD, hM, hF, hK⟩ := hI
  refine ⟨_, _, met_idle l hs hD hF hK, mot_idle l hs hM hF, ?_⟩
  rintro r u r' v ⟨h1, h2, od, m0, K, h3, a1, a2, a3⟩ ⟨h4, od', m', K', b1, b2, b3⟩
  refine ⟨?_, σ, hs, h1, h4, hF, Or.inr ⟨h2, h3⟩⟩
  have e1 : zs (fun t => (bt σ.2.2 t).toNat) 24 + zs (fun t => (!bt σ.2.2 t).toNat) 24 = 24 := by
    rw [← zs_add]
    have e2 : zs (fun t => (bt σ.2.2 t).toNat + (!bt σ.2.2 t).toNat) 24 = zs (fun _ => 1) 24 := zs_congr (fun t _ => by cases bt σ.2.2 t <;> rfl)
    rw [e2]
    rfl
  have e3 : zs (zw0 σ K) 6 = zs (zw0 σ K') 6 := zs_congr (fun j hj => zw0_cg (zGr_u a1 b1 a2 b2) hj)
  rw [a3, b3, e3, pk_sub (a := 24) (b := zs (fun t => (bt σ.2.2 t).toNat) 24) (by omega)]
  congr 2
  omega
end
section
/-! the law's cases, its loop -/
theorem l_2 (i : Nat) : nI i + 2 = nI (i + 2) := nI_add i 2
theorem l_3 (i : Nat) : nI i + 3 = nI (i + 3) := nI_add i 3
theorem l_i4 (i : Nat) : nI i + Int32.ofInt 4 = nI (i + 4) := nI_add i 4
theorem l_cmp {L i : Nat} (hL : L ≤ 256) (hi : i ≤ 300) : nI L - 4 < nI i ↔ L < i + 4 := by
  have e := pk_sub_toInt (a := L) (b := 4) (by omega) (by omega)
  have e2 : (nI L - 4 : Int32) = nI L - nI 4 := rfl
  rw [e2, Int32.lt_iff_toInt_lt, e, nI_toInt (by omega)]
  omega
def lLv (b : Nat) (x1 x2 i : Nat) : List (Option Value) := [some (.ref b), some (.ref x1), some (.ref x2), some (.int (nI i))]
section
variable {E : gE (dS × dS)} {l : Launch} {a1 a2 : Nat → Nat} {b L : Nat} {xs : Nat → Int32} {σ : zT} {ud um : dS} {i : Nat}
theorem law_bring (g : gOk E cL_law R_law) (k : lOk E l a1 a2 b L xs) (hI : zI σ ud um) (h4 : i + 4 ≤ L) (next : ∀ σ' ud' um', zI σ' ud' um' → gG E 425 (lLv b (a1 0) (a2 0) i) [] (ud', um')) : gG E 100 (lLv b (a1 0) (a2 0) i) [] (ud, um) := by
  obtain ⟨P, Q, hP, hQ, hJ⟩ := lq_bring l hI (xs (i + 1)) (xs (i + 2)) (xs (i + 3))
  refine g_aload_n g dL_law_100 rfl rfl ?_
  refine g_aload_n g dL_law_101 rfl rfl ?_
  refine g_iload_n g dL_law_102 rfl rfl ?_
  refine g_iconst (v := 1) g dL_law_103 (by decide) ?_
  refine g_iadd g dL_law_104 ?_
  refine lw_sld g k dL_law_105 (nI_1 i) (by omega) ?_
  refine g_aload_n g dL_law_106 rfl rfl ?_
  refine g_iload_n g dL_law_107 rfl rfl ?_
  refine g_iconst (v := 2) g dL_law_108 (by decide) ?_
  refine g_iadd g dL_law_109 ?_
  refine lw_sld g k dL_law_110 (l_2 i) (by omega) ?_
  refine g_aload_n g dL_law_111 rfl rfl ?_
  refine g_iload_n g dL_law_112 rfl rfl ?_
  refine g_iconst (v := 3) g dL_law_113 (by decide) ?_
  refine g_iadd g dL_law_114 ?_
  refine lw_sld g k dL_law_115 (l_3 i) (by omega) ?_
  refine ld_call_bring g k dL_law_116 (hP) (by decide) (Nat.le_of_ble_eq_true rfl) (fun r1 v1 h1 => ?_)
  refine g_aload_n g dL_law_119 rfl rfl ?_
  refine g_aload_n g dL_law_120 rfl rfl ?_
  refine g_iload_n g dL_law_121 rfl rfl ?_
  refine g_iconst (v := 1) g dL_law_122 (by decide) ?_
  refine g_iadd g dL_law_123 ?_
  refine lw_sld g k dL_law_124 (nI_1 i) (by omega) ?_
  refine g_aload_n g dL_law_125 rfl rfl ?_
  refine g_iload_n g dL_law_126 rfl rfl ?_
  refine g_iconst (v := 2) g dL_law_127 (by decide) ?_
  refine g_iadd g dL_law_128 ?_
  refine lw_sld g k dL_law_129 (l_2 i) (by omega) ?_
  refine g_aload_n g dL_law_130 rfl rfl ?_
  refine g_iload_n g dL_law_131 rfl rfl ?_
  refine g_iconst (v := 3) g dL_law_132 (by decide) ?_
  refine g_iadd g dL_law_133 ?_
  refine lw_sld g k dL_law_134 (l_3 i) (by omega) ?_
  refine lm_call_bring g k dL_law_135 (hQ) (by decide) (Nat.le_of_ble_eq_true rfl) (fun r2 v2 h2 => ?_)
  obtain ⟨e, σ', hI'⟩ := hJ _ _ _ _ h1 h2
  exact g_cmpeq (tgt := 425) (X := True) g dL_law_138 (by decide) ⟨fun _ => trivial, fun _ => e⟩ (fun _ => next σ' _ _ hI') (fun c => absurd trivial c)
theorem law_take (g : gOk E cL_law R_law) (k : lOk E l a1 a2 b L xs) (hI : zI σ ud um) (h4 : i + 4 ≤ L) (next : ∀ σ' ud' um', zI σ' ud' um' → gG E 425 (lLv b (a1 0) (a2 0) i) [] (ud', um')) : gG E 143 (lLv b (a1 0) (a2 0) i) [] (ud, um) := by
  obtain ⟨P, Q, hP, hQ, hJ⟩ := lq_take l hI (xs (i + 1))
  refine g_aload_n g dL_law_143 rfl rfl ?_
  refine g_aload_n g dL_law_144 rfl rfl ?_
  refine g_iload_n g dL_law_145 rfl rfl ?_
  refine g_iconst (v := 1) g dL_law_146 (by decide) ?_
  refine g_iadd g dL_law_147 ?_
  refine lw_sld g k dL_law_148 (nI_1 i) (by omega) ?_
  refine ld_call_take g k dL_law_149 (hP) (by decide) (Nat.le_of_ble_eq_true rfl) (fun r1 v1 h1 => ?_)
  refine g_aload_n g dL_law_152 rfl rfl ?_
  refine g_aload_n g dL_law_153 rfl rfl ?_
  refine g_iload_n g dL_law_154 rfl rfl ?_
  refine g_iconst (v := 1) g dL_law_155 (by decide) ?_
  refine g_iadd g dL_law_156 ?_
  refine lw_sld g k dL_law_157 (nI_1 i) (by omega) ?_
  refine lm_call_take g k dL_law_158 (hQ) (by decide) (Nat.le_of_ble_eq_true rfl) (fun r2 v2 h2 => ?_)
  obtain ⟨e, σ', hI'⟩ := hJ _ _ _ _ h1 h2
  exact g_cmpeq (tgt := 425) (X := True) g dL_law_161 (by decide) ⟨fun _ => trivial, fun _ => e⟩ (fun _ => next σ' _ _ hI') (fun c => absurd trivial c)
theorem law_block (g : gOk E cL_law R_law) (k : lOk E l a1 a2 b L xs) (hI : zI σ ud um) (h4 : i + 4 ≤ L) (next : ∀ σ' ud' um', zI σ' ud' um' → gG E 425 (lLv b (a1 0) (a2 0) i) [] (ud', um')) : gG E 166 (lLv b (a1 0) (a2 0) i) [] (ud, um) := by
  obtain ⟨P, Q, hP, hQ, hJ⟩ := lq_block l hI (xs (i + 1)) (decide (¬ xs (i + 2) = 0))
  refine g_aload_n g dL_law_166 rfl rfl ?_
  refine g_aload_n g dL_law_167 rfl rfl ?_
  refine g_iload_n g dL_law_168 rfl rfl ?_
  refine g_iconst (v := 1) g dL_law_169 (by decide) ?_
  refine g_iadd g dL_law_170 ?_
  refine lw_sld g k dL_law_171 (nI_1 i) (by omega) ?_
  refine g_aload_n g dL_law_172 rfl rfl ?_
  refine g_iload_n g dL_law_173 rfl rfl ?_
  refine g_iconst (v := 2) g dL_law_174 (by decide) ?_
  refine g_iadd g dL_law_175 ?_
  refine lw_sld g k dL_law_176 (l_2 i) (by omega) ?_
  have mid : gG E 185 (lLv b (a1 0) (a2 0) i) [.int (bI (decide (¬ xs (i + 2) = 0))), .int (xs (i + 1)), .ref (a1 0)] (ud, um) := by
    refine ld_call_block g k dL_law_185 (hP) (by decide) (Nat.le_of_ble_eq_true rfl) (fun r1 v1 h1 => ?_)
    refine g_aload_n g dL_law_188 rfl rfl ?_
    refine g_aload_n g dL_law_189 rfl rfl ?_
    refine g_iload_n g dL_law_190 rfl rfl ?_
    refine g_iconst (v := 1) g dL_law_191 (by decide) ?_
    refine g_iadd g dL_law_192 ?_
    refine lw_sld g k dL_law_193 (nI_1 i) (by omega) ?_
    refine g_aload_n g dL_law_194 rfl rfl ?_
    refine g_iload_n g dL_law_195 rfl rfl ?_
    refine g_iconst (v := 2) g dL_law_196 (by decide) ?_
    refine g_iadd g dL_law_197 ?_
    refine lw_sld g k dL_law_198 (l_2 i) (by omega) ?_
    have mid2 : gG E 207 (lLv b (a1 0) (a2 0) i) [.int (bI (decide (¬ xs (i + 2) = 0))), .int (xs (i + 1)), .ref (a2 0), .int r1] (v1, um) := by
      refine lm_call_block g k dL_law_207 (hQ) (by decide) (Nat.le_of_ble_eq_true rfl) (fun r2 v2 h2 => ?_)
      obtain ⟨e, σ', hI'⟩ := hJ _ _ _ _ h1 h2
      exact g_cmpeq (tgt := 425) (X := True) g dL_law_210 (by decide) ⟨fun _ => trivial, fun _ => e⟩ (fun _ => next σ' _ _ hI') (fun c => absurd trivial c)
    refine g_ifeq (tgt := 206) g dL_law_199 (by decide) Iff.rfl (fun c => ?_) (fun c => ?_)
    · refine g_iconst (v := bI (decide (¬ xs (i + 2) = 0))) g dL_law_206 (by rw [decide_eq_false (show ¬ ¬ xs (i + 2) = 0 from fun q => q c)]; decide) ?_
      exact mid2
    · refine g_iconst (v := bI (decide (¬ xs (i + 2) = 0))) g dL_law_202 (by rw [decide_eq_true c]; decide) ?_
      refine g_goto (tgt := 207) g dL_law_203 (by decide) ?_
      exact mid2
  refine g_ifeq (tgt := 184) g dL_law_177 (by decide) Iff.rfl (fun c => ?_) (fun c => ?_)
  · refine g_iconst (v := bI (decide (¬ xs (i + 2) = 0))) g dL_law_184 (by rw [decide_eq_false (show ¬ ¬ xs (i + 2) = 0 from fun q => q c)]; decide) ?_
    exact mid
  · refine g_iconst (v := bI (decide (¬ xs (i + 2) = 0))) g dL_law_180 (by rw [decide_eq_true c]; decide) ?_
    refine g_goto (tgt := 185) g dL_law_181 (by decide) ?_
    exact mid
theorem law_change (g : gOk E cL_law R_law) (k : lOk E l a1 a2 b L xs) (hI : zI σ ud um) (h4 : i + 4 ≤ L) (next : ∀ σ' ud' um', zI σ' ud' um' → gG E 425 (lLv b (a1 0) (a2 0) i) [] (ud', um')) : gG E 215 (lLv b (a1 0) (a2 0) i) [] (ud, um) := by
  obtain ⟨P, Q, hP, hQ, hJ⟩ := lq_change l hI (xs (i + 1)) (xs (i + 2))
  refine g_aload_n g dL_law_215 rfl rfl ?_
  refine g_aload_n g dL_law_216 rfl rfl ?_
  refine g_iload_n g dL_law_217 rfl rfl ?_
  refine g_iconst (v := 1) g dL_law_218 (by decide) ?_
  refine g_iadd g dL_law_219 ?_
  refine lw_sld g k dL_law_220 (nI_1 i) (by omega) ?_
  refine g_aload_n g dL_law_221 rfl rfl ?_
  refine g_iload_n g dL_law_222 rfl rfl ?_
  refine g_iconst (v := 2) g dL_law_223 (by decide) ?_
  refine g_iadd g dL_law_224 ?_
  refine lw_sld g k dL_law_225 (l_2 i) (by omega) ?_
  refine ld_call_change g k dL_law_226 (hP) (by decide) (Nat.le_of_ble_eq_true rfl) (fun r1 v1 h1 => ?_)
  refine g_aload_n g dL_law_229 rfl rfl ?_
  refine g_aload_n g dL_law_230 rfl rfl ?_
  refine g_iload_n g dL_law_231 rfl rfl ?_
  refine g_iconst (v := 1) g dL_law_232 (by decide) ?_
  refine g_iadd g dL_law_233 ?_
  refine lw_sld g k dL_law_234 (nI_1 i) (by omega) ?_
  refine g_aload_n g dL_law_235 rfl rfl ?_
  refine g_iload_n g dL_law_236 rfl rfl ?_
  refine g_iconst (v := 2) g dL_law_237 (by decide) ?_
  refine g_iadd g dL_law_238 ?_
  refine lw_sld g k dL_law_239 (l_2 i) (by omega) ?_
  refine lm_call_change g k dL_law_240 (hQ) (by decide) (Nat.le_of_ble_eq_true rfl) (fun r2 v2 h2 => ?_)
  obtain ⟨e, σ', hI'⟩ := hJ _ _ _ _ h1 h2
  exact g_cmpeq (tgt := 425) (X := True) g dL_law_243 (by decide) ⟨fun _ => trivial, fun _ => e⟩ (fun _ => next σ' _ _ hI') (fun c => absurd trivial c)
theorem law_tasks (g : gOk E cL_law R_law) (k : lOk E l a1 a2 b L xs) (hI : zI σ ud um) (h4 : i + 4 ≤ L) (next : ∀ σ' ud' um', zI σ' ud' um' → gG E 425 (lLv b (a1 0) (a2 0) i) [] (ud', um')) : gG E 248 (lLv b (a1 0) (a2 0) i) [] (ud, um) := by
  obtain ⟨P, Q, hP, hQ, hJ⟩ := lq_tasks l hI 
  refine g_aload_n g dL_law_248 rfl rfl ?_
  refine ld_call_tasks g k dL_law_249 (hP) (by decide) (Nat.le_of_ble_eq_true rfl) (fun r1 v1 h1 => ?_)
  refine g_aload_n g dL_law_252 rfl rfl ?_
  refine lm_call_tasks g k dL_law_253 (hQ) (by decide) (Nat.le_of_ble_eq_true rfl) (fun r2 v2 h2 => ?_)
  obtain ⟨e, σ', hI'⟩ := hJ _ _ _ _ h1 h2
  exact g_cmpeq (tgt := 425) (X := True) g dL_law_256 (by decide) ⟨fun _ => trivial, fun _ => e⟩ (fun _ => next σ' _ _ hI') (fun c => absurd trivial c)
theorem law_blocked (g : gOk E cL_law R_law) (k : lOk E l a1 a2 b L xs) (hI : zI σ ud um) (h4 : i + 4 ≤ L) (next : ∀ σ' ud' um', zI σ' ud' um' → gG E 425 (lLv b (a1 0) (a2 0) i) [] (ud', um')) : gG E 261 (lLv b (a1 0) (a2 0) i) [] (ud, um) := by
  obtain ⟨P, Q, hP, hQ, hJ⟩ := lq_blocked l hI 
  refine g_aload_n g dL_law_261 rfl rfl ?_
  refine ld_call_blocked g k dL_law_262 (hP) (by decide) (Nat.le_of_ble_eq_true rfl) (fun r1 v1 h1 => ?_)
  refine g_aload_n g dL_law_265 rfl rfl ?_
  refine lm_call_blocked g k dL_law_266 (hQ) (by decide) (Nat.le_of_ble_eq_true rfl) (fun r2 v2 h2 => ?_)
  obtain ⟨e, σ', hI'⟩ := hJ _ _ _ _ h1 h2
  exact g_cmpeq (tgt := 425) (X := True) g dL_law_269 (by decide) ⟨fun _ => trivial, fun _ => e⟩ (fun _ => next σ' _ _ hI') (fun c => absurd trivial c)
theorem law_loss (g : gOk E cL_law R_law) (k : lOk E l a1 a2 b L xs) (hI : zI σ ud um) (h4 : i + 4 ≤ L) (next : ∀ σ' ud' um', zI σ' ud' um' → gG E 425 (lLv b (a1 0) (a2 0) i) [] (ud', um')) : gG E 274 (lLv b (a1 0) (a2 0) i) [] (ud, um) := by
  obtain ⟨P, Q, hP, hQ, hJ⟩ := lq_loss l hI 
  refine g_aload_n g dL_law_274 rfl rfl ?_
  refine ld_call_loss g k dL_law_275 (hP) (by decide) (Nat.le_of_ble_eq_true rfl) (fun r1 v1 h1 => ?_)
  refine g_aload_n g dL_law_278 rfl rfl ?_
  refine lm_call_loss g k dL_law_279 (hQ) (by decide) (Nat.le_of_ble_eq_true rfl) (fun r2 v2 h2 => ?_)
  obtain ⟨e, σ', hI'⟩ := hJ _ _ _ _ h1 h2
  exact g_cmpeq (tgt := 425) (X := True) g dL_law_282 (by decide) ⟨fun _ => trivial, fun _ => e⟩ (fun _ => next σ' _ _ hI') (fun c => absurd trivial c)
theorem law_kept (g : gOk E cL_law R_law) (k : lOk E l a1 a2 b L xs) (hI : zI σ ud um) (h4 : i + 4 ≤ L) (next : ∀ σ' ud' um', zI σ' ud' um' → gG E 425 (lLv b (a1 0) (a2 0) i) [] (ud', um')) : gG E 287 (lLv b (a1 0) (a2 0) i) [] (ud, um) := by
  obtain ⟨P, Q, hP, hQ, hJ⟩ := lq_kept l hI (xs (i + 1))
  refine g_aload_n g dL_law_287 rfl rfl ?_
  refine g_aload_n g dL_law_288 rfl rfl ?_
  refine g_iload_n g dL_law_289 rfl rfl ?_
  refine g_iconst (v := 1) g dL_law_290 (by decide) ?_
  refine g_iadd g dL_law_291 ?_
  refine lw_sld g k dL_law_292 (nI_1 i) (by omega) ?_
  refine ld_call_kept g k dL_law_293 (hP) (by decide) (Nat.le_of_ble_eq_true rfl) (fun r1 v1 h1 => ?_)
  refine g_aload_n g dL_law_296 rfl rfl ?_
  refine g_aload_n g dL_law_297 rfl rfl ?_
  refine g_iload_n g dL_law_298 rfl rfl ?_
  refine g_iconst (v := 1) g dL_law_299 (by decide) ?_
  refine g_iadd g dL_law_300 ?_
  refine lw_sld g k dL_law_301 (nI_1 i) (by omega) ?_
  refine lm_call_kept g k dL_law_302 (hQ) (by decide) (Nat.le_of_ble_eq_true rfl) (fun r2 v2 h2 => ?_)
  obtain ⟨e, σ', hI'⟩ := hJ _ _ _ _ h1 h2
  exact g_cmpeq (tgt := 425) (X := True) g dL_law_305 (by decide) ⟨fun _ => trivial, fun _ => e⟩ (fun _ => next σ' _ _ hI') (fun c => absurd trivial c)
theorem law_at (g : gOk E cL_law R_law) (k : lOk E l a1 a2 b L xs) (hI : zI σ ud um) (h4 : i + 4 ≤ L) (next : ∀ σ' ud' um', zI σ' ud' um' → gG E 425 (lLv b (a1 0) (a2 0) i) [] (ud', um')) : gG E 310 (lLv b (a1 0) (a2 0) i) [] (ud, um) := by
  obtain ⟨P, Q, hP, hQ, hJ⟩ := lq_at l hI (xs (i + 1))
  refine g_aload_n g dL_law_310 rfl rfl ?_
  refine g_aload_n g dL_law_311 rfl rfl ?_
  refine g_iload_n g dL_law_312 rfl rfl ?_
  refine g_iconst (v := 1) g dL_law_313 (by decide) ?_
  refine g_iadd g dL_law_314 ?_
  refine lw_sld g k dL_law_315 (nI_1 i) (by omega) ?_
  refine ld_call_at g k dL_law_316 (hP) (by decide) (Nat.le_of_ble_eq_true rfl) (fun r1 v1 h1 => ?_)
  refine g_aload_n g dL_law_319 rfl rfl ?_
  refine g_aload_n g dL_law_320 rfl rfl ?_
  refine g_iload_n g dL_law_321 rfl rfl ?_
  refine g_iconst (v := 1) g dL_law_322 (by decide) ?_
  refine g_iadd g dL_law_323 ?_
  refine lw_sld g k dL_law_324 (nI_1 i) (by omega) ?_
  refine lm_call_at g k dL_law_325 (hQ) (by decide) (Nat.le_of_ble_eq_true rfl) (fun r2 v2 h2 => ?_)
  obtain ⟨e, σ', hI'⟩ := hJ _ _ _ _ h1 h2
  exact g_cmpeq (tgt := 425) (X := True) g dL_law_328 (by decide) ⟨fun _ => trivial, fun _ => e⟩ (fun _ => next σ' _ _ hI') (fun c => absurd trivial c)
theorem law_greatestMust (g : gOk E cL_law R_law) (k : lOk E l a1 a2 b L xs) (hI : zI σ ud um) (h4 : i + 4 ≤ L) (next : ∀ σ' ud' um', zI σ' ud' um' → gG E 425 (lLv b (a1 0) (a2 0) i) [] (ud', um')) : gG E 333 (lLv b (a1 0) (a2 0) i) [] (ud, um) := by
  obtain ⟨P, Q, hP, hQ, hJ⟩ := lq_greatestMust l hI (xs (i + 1))
  refine g_aload_n g dL_law_333 rfl rfl ?_
  refine g_aload_n g dL_law_334 rfl rfl ?_
  refine g_iload_n g dL_law_335 rfl rfl ?_
  refine g_iconst (v := 1) g dL_law_336 (by decide) ?_
  refine g_iadd g dL_law_337 ?_
  refine lw_sld g k dL_law_338 (nI_1 i) (by omega) ?_
  refine ld_call_greatestMust g k dL_law_339 (hP) (by decide) (Nat.le_of_ble_eq_true rfl) (fun r1 v1 h1 => ?_)
  refine g_aload_n g dL_law_342 rfl rfl ?_
  refine g_aload_n g dL_law_343 rfl rfl ?_
  refine g_iload_n g dL_law_344 rfl rfl ?_
  refine g_iconst (v := 1) g dL_law_345 (by decide) ?_
  refine g_iadd g dL_law_346 ?_
  refine lw_sld g k dL_law_347 (nI_1 i) (by omega) ?_
  refine lm_call_greatestMust g k dL_law_348 (hQ) (by decide) (Nat.le_of_ble_eq_true rfl) (fun r2 v2 h2 => ?_)
  obtain ⟨e, σ', hI'⟩ := hJ _ _ _ _ h1 h2
  exact g_cmpeq (tgt := 425) (X := True) g dL_law_351 (by decide) ⟨fun _ => trivial, fun _ => e⟩ (fun _ => next σ' _ _ hI') (fun c => absurd trivial c)
theorem law_lossWithout (g : gOk E cL_law R_law) (k : lOk E l a1 a2 b L xs) (hI : zI σ ud um) (h4 : i + 4 ≤ L) (next : ∀ σ' ud' um', zI σ' ud' um' → gG E 425 (lLv b (a1 0) (a2 0) i) [] (ud', um')) : gG E 356 (lLv b (a1 0) (a2 0) i) [] (ud, um) := by
  obtain ⟨P, Q, hP, hQ, hJ⟩ := lq_lossWithout l hI (xs (i + 1))
  refine g_aload_n g dL_law_356 rfl rfl ?_
  refine g_aload_n g dL_law_357 rfl rfl ?_
  refine g_iload_n g dL_law_358 rfl rfl ?_
  refine g_iconst (v := 1) g dL_law_359 (by decide) ?_
  refine g_iadd g dL_law_360 ?_
  refine lw_sld g k dL_law_361 (nI_1 i) (by omega) ?_
  refine ld_call_lossWithout g k dL_law_362 (hP) (by decide) (Nat.le_of_ble_eq_true rfl) (fun r1 v1 h1 => ?_)
  refine g_aload_n g dL_law_365 rfl rfl ?_
  refine g_aload_n g dL_law_366 rfl rfl ?_
  refine g_iload_n g dL_law_367 rfl rfl ?_
  refine g_iconst (v := 1) g dL_law_368 (by decide) ?_
  refine g_iadd g dL_law_369 ?_
  refine lw_sld g k dL_law_370 (nI_1 i) (by omega) ?_
  refine lm_call_lossWithout g k dL_law_371 (hQ) (by decide) (Nat.le_of_ble_eq_true rfl) (fun r2 v2 h2 => ?_)
  obtain ⟨e, σ', hI'⟩ := hJ _ _ _ _ h1 h2
  exact g_cmpeq (tgt := 425) (X := True) g dL_law_374 (by decide) ⟨fun _ => trivial, fun _ => e⟩ (fun _ => next σ' _ _ hI') (fun c => absurd trivial c)
theorem law_freeable (g : gOk E cL_law R_law) (k : lOk E l a1 a2 b L xs) (hI : zI σ ud um) (h4 : i + 4 ≤ L) (next : ∀ σ' ud' um', zI σ' ud' um' → gG E 425 (lLv b (a1 0) (a2 0) i) [] (ud', um')) : gG E 379 (lLv b (a1 0) (a2 0) i) [] (ud, um) := by
  obtain ⟨P, Q, hP, hQ, hJ⟩ := lq_freeable l hI (xs (i + 1)) (xs (i + 2))
  refine g_aload_n g dL_law_379 rfl rfl ?_
  refine g_aload_n g dL_law_380 rfl rfl ?_
  refine g_iload_n g dL_law_381 rfl rfl ?_
  refine g_iconst (v := 1) g dL_law_382 (by decide) ?_
  refine g_iadd g dL_law_383 ?_
  refine lw_sld g k dL_law_384 (nI_1 i) (by omega) ?_
  refine g_aload_n g dL_law_385 rfl rfl ?_
  refine g_iload_n g dL_law_386 rfl rfl ?_
  refine g_iconst (v := 2) g dL_law_387 (by decide) ?_
  refine g_iadd g dL_law_388 ?_
  refine lw_sld g k dL_law_389 (l_2 i) (by omega) ?_
  refine ld_call_freeable g k dL_law_390 (hP) (by decide) (Nat.le_of_ble_eq_true rfl) (fun r1 v1 h1 => ?_)
  refine g_aload_n g dL_law_393 rfl rfl ?_
  refine g_aload_n g dL_law_394 rfl rfl ?_
  refine g_iload_n g dL_law_395 rfl rfl ?_
  refine g_iconst (v := 1) g dL_law_396 (by decide) ?_
  refine g_iadd g dL_law_397 ?_
  refine lw_sld g k dL_law_398 (nI_1 i) (by omega) ?_
  refine g_aload_n g dL_law_399 rfl rfl ?_
  refine g_iload_n g dL_law_400 rfl rfl ?_
  refine g_iconst (v := 2) g dL_law_401 (by decide) ?_
  refine g_iadd g dL_law_402 ?_
  refine lw_sld g k dL_law_403 (l_2 i) (by omega) ?_
  refine lm_call_freeable g k dL_law_404 (hQ) (by decide) (Nat.le_of_ble_eq_true rfl) (fun r2 v2 h2 => ?_)
  obtain ⟨e, σ', hI'⟩ := hJ _ _ _ _ h1 h2
  exact g_cmpeq (tgt := 425) (X := True) g dL_law_407 (by decide) ⟨fun _ => trivial, fun _ => e⟩ (fun _ => next σ' _ _ hI') (fun c => absurd trivial c)
theorem law_idle (g : gOk E cL_law R_law) (k : lOk E l a1 a2 b L xs) (hI : zI σ ud um) (h4 : i + 4 ≤ L) (next : ∀ σ' ud' um', zI σ' ud' um' → gG E 425 (lLv b (a1 0) (a2 0) i) [] (ud', um')) : gG E 412 (lLv b (a1 0) (a2 0) i) [] (ud, um) := by
  obtain ⟨P, Q, hP, hQ, hJ⟩ := lq_idle l hI 
  refine g_aload_n g dL_law_412 rfl rfl ?_
  refine ld_call_idle g k dL_law_413 (hP) (by decide) (Nat.le_of_ble_eq_true rfl) (fun r1 v1 h1 => ?_)
  refine g_aload_n g dL_law_416 rfl rfl ?_
  refine lm_call_idle g k dL_law_417 (hQ) (by decide) (Nat.le_of_ble_eq_true rfl) (fun r2 v2 h2 => ?_)
  obtain ⟨e, σ', hI'⟩ := hJ _ _ _ _ h1 h2
  exact g_cmpeq (tgt := 425) (X := True) g dL_law_420 (by decide) ⟨fun _ => trivial, fun _ => e⟩ (fun _ => next σ' _ _ hI') (fun c => absurd trivial c)
set_option maxRecDepth 100000 in
theorem law_step (g : gOk E cL_law R_law) (k : lOk E l a1 a2 b L xs) (hL : L ≤ 256) (ret : ∀ lv u, gG E 432 lv [.int 1] u) (hI : zI σ ud um) (hi : i ≤ 300) (ih : ∀ σ' ud' um', zI σ' ud' um' → i + 4 ≤ L → gG E 18 (lLv b (a1 0) (a2 0) (i + 4)) [] (ud', um')) : gG E 18 (lLv b (a1 0) (a2 0) i) [] (ud, um) := by
  refine g_iload_n g dL_law_18 rfl rfl ?_
  refine g_aload_n g dL_law_19 rfl rfl ?_
  refine lw_len g k dL_law_20 ?_
  refine g_iconst (v := 4) g dL_law_21 (by decide) ?_
  refine g_isub g dL_law_22 ?_
  refine g_cmpgt (tgt := 431) g dL_law_23 (by decide) (l_cmp hL hi) (fun c => ?_) (fun c => ?_)
  · refine g_iconst (v := 1) g dL_law_431 (by decide) ?_
    exact ret _ _
  · have h4 : i + 4 ≤ L := by omega
    have next : ∀ σ' ud' um', zI σ' ud' um' → gG E 425 (lLv b (a1 0) (a2 0) i) [] (ud', um') := by
      intro σ' ud' um' hI'
      refine g_iinc g dL_law_425 rfl (l_i4 i) ?_
      refine g_goto (tgt := 18) g dL_law_428 (by decide) ?_
      exact ih σ' ud' um' hI' h4
    refine g_aload_n g dL_law_26 rfl rfl ?_
    refine g_iload_n g dL_law_27 rfl rfl ?_
    refine lw_sld g k dL_law_28 (rfl) (by omega) ?_
    refine g_bipush (v := 15) g dL_law_29 (by decide) ?_
    refine g_iand g dL_law_31 ?_
    obtain ⟨j, hj, ej⟩ := pk_andE (xs i) (m := 15) 4 (by decide)
    refine g_top ej ?_
    rcases (show j = 0 ∨ j = 1 ∨ j = 2 ∨ j = 3 ∨ j = 4 ∨ j = 5 ∨ j = 6 ∨ j = 7 ∨ j = 8 ∨ j = 9 ∨ j = 10 ∨ j = 11 ∨ j = 12 ∨ j = 13 ∨ j = 14 ∨ j = 15 by omega) with rfl | rfl | rfl | rfl | rfl | rfl | rfl | rfl | rfl | rfl | rfl | rfl | rfl | rfl | rfl | rfl
    · exact g_tabIn (tgt := 100) (off := 68) g dL_law_32 (by decide +kernel) (by decide +kernel) (by decide +kernel) (by decide +kernel) (law_bring g k hI h4 next)
    · exact g_tabIn (tgt := 143) (off := 111) g dL_law_32 (by decide +kernel) (by decide +kernel) (by decide +kernel) (by decide +kernel) (law_take g k hI h4 next)
    · exact g_tabIn (tgt := 166) (off := 134) g dL_law_32 (by decide +kernel) (by decide +kernel) (by decide +kernel) (by decide +kernel) (law_block g k hI h4 next)
    · exact g_tabIn (tgt := 215) (off := 183) g dL_law_32 (by decide +kernel) (by decide +kernel) (by decide +kernel) (by decide +kernel) (law_change g k hI h4 next)
    · exact g_tabIn (tgt := 248) (off := 216) g dL_law_32 (by decide +kernel) (by decide +kernel) (by decide +kernel) (by decide +kernel) (law_tasks g k hI h4 next)
    · exact g_tabIn (tgt := 261) (off := 229) g dL_law_32 (by decide +kernel) (by decide +kernel) (by decide +kernel) (by decide +kernel) (law_blocked g k hI h4 next)
    · exact g_tabIn (tgt := 274) (off := 242) g dL_law_32 (by decide +kernel) (by decide +kernel) (by decide +kernel) (by decide +kernel) (law_loss g k hI h4 next)
    · exact g_tabIn (tgt := 287) (off := 255) g dL_law_32 (by decide +kernel) (by decide +kernel) (by decide +kernel) (by decide +kernel) (law_kept g k hI h4 next)
    · exact g_tabIn (tgt := 310) (off := 278) g dL_law_32 (by decide +kernel) (by decide +kernel) (by decide +kernel) (by decide +kernel) (law_at g k hI h4 next)
    · exact g_tabIn (tgt := 333) (off := 301) g dL_law_32 (by decide +kernel) (by decide +kernel) (by decide +kernel) (by decide +kernel) (law_greatestMust g k hI h4 next)
    · exact g_tabIn (tgt := 356) (off := 324) g dL_law_32 (by decide +kernel) (by decide +kernel) (by decide +kernel) (by decide +kernel) (law_lossWithout g k hI h4 next)
    · exact g_tabIn (tgt := 379) (off := 347) g dL_law_32 (by decide +kernel) (by decide +kernel) (by decide +kernel) (by decide +kernel) (law_freeable g k hI h4 next)
    · exact g_tabIn (tgt := 412) (off := 380) g dL_law_32 (by decide +kernel) (by decide +kernel) (by decide +kernel) (by decide +kernel) (law_idle g k hI h4 next)
    · exact g_tabOut (tgt := 425) g dL_law_32 (Or.inr (by decide +kernel)) (by decide +kernel) (next σ ud um hI)
    · exact g_tabOut (tgt := 425) g dL_law_32 (Or.inr (by decide +kernel)) (by decide +kernel) (next σ ud um hI)
    · exact g_tabOut (tgt := 425) g dL_law_32 (Or.inr (by decide +kernel)) (by decide +kernel) (next σ ud um hI)
theorem law_loop (g : gOk E cL_law R_law) (k : lOk E l a1 a2 b L xs) (hL : L ≤ 256) (ret : ∀ lv u, gG E 432 lv [.int 1] u) : ∀ n i σ ud um, L ≤ i + n → i ≤ 300 → zI σ ud um → gG E 18 (lLv b (a1 0) (a2 0) i) [] (ud, um) := by
  intro n
  induction n with
  | zero => exact fun i σ ud um h1 h2 hI => law_step g k hL ret hI h2 (fun _ _ _ _ h4 => absurd h4 (by omega))
  | succ n ih => exact fun i σ ud um h1 h2 hI => law_step g k hL ret hI h2 (fun σ' ud' um' hI' h4 => ih (i + 4) σ' ud' um' (by omega) (by omega) hI')
end
end
section
theorem l_cls {s0 : State} {b0 : Addr} (ht0 : ∀ w ∈ lw_all, w.before #[Value.ref b0] s0 = true) : ∃ (dC : Nat → ClassId) (dI : Nat → Nat → Nat), ∀ (k : Nat) (q : vw_C), vwCl[k]? = some q → u_Kn s0 q.1 q.2.1 q.2.2 (dC k) (dI k) := by
  obtain ⟨c0_, iS0, hKn0⟩ := u_known (C := RX0) (T := TX0) (N := 19) (n := 19) ht0 in_X0 (ht0 _ q34)
  obtain ⟨c1_, iS1, hKn1⟩ := u_known (C := RX1) (T := TX1) (N := 13) (n := 13) ht0 in_X1 (ht0 _ q222)
  refine ⟨fun k => if k = 0 then c0_ else c1_, fun k => if k = 0 then iS0 else iS1, ?_⟩
  intro k q hq
  match k, hq with
  | 0, hq => cases hq; exact hKn0
  | 1, hq => cases hq; exact hKn1
  | k + 2, hq => simp [vwCl] at hq
theorem l_def0 : ∀ j, j < 19 → defaultValue (tyX0 j) = vp_V dkF0 j := fun j hj => by
  rcases (show j = 0 ∨ j = 1 ∨ j = 2 ∨ j = 3 ∨ j = 4 ∨ j = 5 ∨ j = 6 ∨ j = 7 ∨ j = 8 ∨ j = 9 ∨ j = 10 ∨ j = 11 ∨ j = 12 ∨ j = 13 ∨ j = 14 ∨ j = 15 ∨ j = 16 ∨ j = 17 ∨ j = 18 by omega) with rfl | rfl | rfl | rfl | rfl | rfl | rfl | rfl | rfl | rfl | rfl | rfl | rfl | rfl | rfl | rfl | rfl | rfl | rfl <;> rfl
theorem l_def1 : ∀ j, j < 13 → defaultValue (tyX1 j) = vp_V moF0 j := fun j hj => by
  rcases (show j = 0 ∨ j = 1 ∨ j = 2 ∨ j = 3 ∨ j = 4 ∨ j = 5 ∨ j = 6 ∨ j = 7 ∨ j = 8 ∨ j = 9 ∨ j = 10 ∨ j = 11 ∨ j = 12 by omega) with rfl | rfl | rfl | rfl | rfl | rfl | rfl | rfl | rfl | rfl | rfl | rfl | rfl <;> rfl
theorem l_lv {ls : Array Slot} {b x1 x2 : Nat} (hl : lv_has ls 4 [(2, .ref x2), (1, .ref x1), (0, .ref b)]) : g_lv ls 4 [some (.ref b), some (.ref x1), some (.ref x2), none] := by
  refine ⟨hl.1, hl.2.1, rfl, fun i v hi => ?_⟩
  match i, hi with
  | 0, hi => cases hi; exact ⟨rfl, hl.2.2 (0, .ref b) (by simp)⟩
  | 1, hi => cases hi; exact ⟨rfl, hl.2.2 (1, .ref x1) (by simp)⟩
  | 2, hi => cases hi; exact ⟨rfl, hl.2.2 (2, .ref x2) (by simp)⟩
  | 3, hi => cases hi
  | i + 4, hi => simp at hi
set_option maxHeartbeats 4000000 in
set_option maxRecDepth 100000 in
/-- the law behind its two objects -/
theorem l_rest {p : Program} {e : Env} {s : State} {m : MethodId} {below : List Frame} {meth : Method} {c : Code} (l : Launch) {b L : Nat} {xs : Nat → Int32} (hL : L ≤ 256) (C0 : lw_At p s m meth c b L xs) {D : va_G} {a1 a2 : Nat → Nat} {d1 d2 : Nat → ClassId} {H : Heap} {locs : List Loc} {ls : Array Slot} (hK : va_K D vwCl (dkTy d1 ++ moTy d2) s) (hP : va_P D vwCl (dkW a1 d1 z0 ++ moW a2 d2 z0) H) (hD : va_D (fun q : Nat => s.heap.size ≤ q) (dkW a1 d1 z0 ++ moW a2 d2 z0)) (hS : va_S (fun q : Nat => s.heap.size ≤ q) s.heap H locs) (hl : lv_has ls 4 [(2, .ref (a2 0)), (1, .ref (a1 0)), (0, .ref b)]) : W p l e room_1 s m #[Value.ref b] below meth c H locs 600000 7290000 (lw_Z below #[Value.ref b] s) (F0 m 16 ls []) := by
  obtain ⟨hx, hb, hr, hml, hown, hts0, hX, hbl, hlocks, hgv⟩ := id C0
  have hts : ∀ w ∈ lw_all, w.before #[Value.ref b] s = true := fun w h => hts0 w (lw_all_tbl h)
  have key : ∀ (E : gE (dS × dS)), E = (p, l, e, room_1, s, m, #[Value.ref b], below, meth, c, lw_Z below #[Value.ref b] s, D, dkTy d1 ++ moTy d2, fun u => dkW a1 d1 u.1 ++ moW a2 d2 u.2, fun q : Nat => s.heap.size ≤ q, 4, 600000, 7290000) → gG E 16 [some (.ref b), some (.ref (a1 0)), some (.ref (a2 0)), none] [] (z0, z0) := by
    intro E hE
    have g : gOk E cL_law R_law := by
      subst hE
      exact ⟨hx, hb, hml, hown, hts, fun _ h => h, hlocks⟩
    have k : lOk E l a1 a2 b L xs := by
      subst hE
      exact ⟨rfl, rfl, rfl, rfl, ⟨d1, d2, rfl, rfl⟩, hX, hbl, Nat.not_le.mpr hbl, hL⟩
    have ret : ∀ lv u, gG E 432 lv [.int 1] u := by
      subst hE
      intro lv u H locs ls hK hP hD hS h
      exact va_forget (fun q hq => hS.2.2 q hq) (lw_ret hx hb hr hlocks dL_law_432)
    refine g_iconst (v := nI 0) g dL_law_16 (by decide) ?_
    refine g_istore_n g dL_law_17 rfl (Nat.le_of_ble_eq_true rfl) ?_
    exact law_loop g k hL ret L 0 zσ0 z0 z0 (by omega) (by omega) zI_0
  exact key _ rfl H locs ls hK hP hD hS (l_lv hl)
set_option maxHeartbeats 4000000 in
set_option maxRecDepth 100000 in
/-- THE LAW, from its entry -/
theorem whole_start {p : Program} {e : Env} {s : State} {m : MethodId} {below : List Frame} {meth : Method} {c : Code} (l : Launch) {b L : Nat} {xs : Nat → Int32} (hL : L ≤ 256) (C0 : lw_At p s m meth c b L xs) : W p l e room_1 s m #[Value.ref b] below meth c s.heap [] 0 0 (lw_Z below #[Value.ref b] s) (entryFrame m ([Value.ref b] : List Value).toArray 4) := by
  obtain ⟨hx, hb, hr, hml, hown, hts0, hX, hbl, hlocks, hgv⟩ := id C0
  have hts : ∀ w ∈ lw_all, w.before #[Value.ref b] s = true := fun w h => hts0 w (lw_all_tbl h)
  have hA : ∀ q : Nat, s.heap.size ≤ q → (fun q : Nat => s.heap.size ≤ q) q := fun _ h => h
  obtain ⟨dC, dI, hKc⟩ := l_cls hts
  have hS : va_S (fun q : Nat => s.heap.size ≤ q) s.heap s.heap [] := va_S.rf
  have hK : va_K (dC, dI) vwCl [] s := ⟨hKc, fun k q h => by simp at h⟩
  have hP : va_P (dC, dI) vwCl [] s.heap := fun k q h => by simp at h
  have hD : va_D (fun q : Nat => s.heap.size ≤ q) [] := ⟨fun i j p q h => by simp at h, fun k q h => by simp at h⟩
  have hl := lv_entry ([.ref b]) (n := 4) (Nat.le_of_ble_eq_true rfl)
  rw [lg_entry_eq]
  generalize (lg_sl ([.ref b]) ++ List.replicate (4 - (lg_sl ([.ref b])).length) Slot.unset).toArray = ls at hl ⊢
  have hl : lv_has ls 4 [(0, .ref b)] := hl
  refine va_new (ci := 0) (fs := dkF0) (C := RX0) (T := TX0) (N := 19) hx hb hts in_X0 tyX0 tyX0_ok hown (hts _ q33) (hts _ q34) (hts _ q31) hK hP hD hS hA rfl l_def0 (Nat.le_of_ble_eq_true rfl) (Nat.le_of_ble_eq_true rfl) dL_law_0 (fun o1 H hP hD hS => ?_)
  have hP : va_P (dC, dI) vwCl ([(o1, .inr (0, dkF0))]) H := hP
  have hD : va_D (fun q : Nat => s.heap.size ≤ q) ([(o1, .inr (0, dkF0))]) := hD
  refine W.widen (k := 1) (n := 19) (by omega) (by omega) ?_
  refine lv_dup hx hb dL_law_3 rfl ?_
  have hPc := hP.sub (ws' := [(o1, .inr (0, dkF0))]) [0] rfl
  have hDc := hD.sub (ws' := [(o1, .inr (0, dkF0))]) [0] (by decide) rfl
  have hKc := hK.sub (tys' := []) [] rfl
  have hFc := va_free (wc := [(o1, .inr (0, dkF0))]) hD hS hA [0] rfl
  refine va_callv (va_runI (As := []) (rest := [.ref o1]) ⟨hx, hb, hml, hown, hts⟩ (met_init l (dC, dI) o1 H.size) (cwI 0 hts (lw_meth q37) rfl rfl rfl (hts _ q31) (hts _ q35) (hts _ q36) rfl (by decide +kernel) ⟨Nat.le_of_ble_eq_true rfl, Nat.le_of_ble_eq_true rfl⟩) ⟨fun a U g mk q => by obtain ⟨q0, q1, qP, qK, qD⟩ := q; exact ⟨q0, q1, qP, va_K.moved (u := U) (U := U.calling g mk a) (Vm.Alike.refl U.vm) qK, qD⟩, fun U hU hW => ⟨rfl, by rw [hU], by rw [hU]; exact hPc, va_K.moved hW.alike hKc, hDc.weaken (fun _ _ _ _ => trivial)⟩⟩ rfl rfl hl.1 rfl (lv_room (Nat.le_of_ble_eq_true rfl)) dL_law_4 ⟨Nat.le_of_ble_eq_true rfl, Nat.le_of_ble_eq_true rfl⟩) hS (fun q _ h => hFc q h) hFc (fun u t H1 locs ht hvm hw1 hB hz1 hk1 hS => ?_)
  obtain ⟨a1, d1⟩ := u
  have hw1 : a1 0 = o1 := hw1
  obtain ⟨hP1, hK1, hD1⟩ := hB
  rw [ht] at hP1
  have hK1 := va_K.moved hvm.symm hK1
  obtain ⟨hP, hD⟩ := va_join (wr := []) (w1 := dkW a1 d1 z0) hP hD [0] [] rfl rfl (by decide) (by decide) hk1 hFc hP1 hD1
  have hK := (hK.sub (tys' := []) [] rfl).app hK1
  generalize H1 = H at hP hS ⊢
  have hP : va_P (dC, dI) vwCl (dkW a1 d1 z0) H := hP
  have hD : va_D (fun q : Nat => s.heap.size ≤ q) (dkW a1 d1 z0) := hD
  have hK : va_K (dC, dI) vwCl (dkTy d1) s := hK
  refine W.widen (k := 13) (n := 129) (by omega) (by omega) ?_
  refine lv_astore_n (lv' := [(1, .ref o1), (0, .ref b)]) hx hb dL_law_7 rfl hl (by decide) rfl (fun ls hl => ?_)
  refine va_new (ci := 1) (fs := moF0) (C := RX1) (T := TX1) (N := 13) hx hb hts in_X1 tyX1 tyX1_ok hown (hts _ q221) (hts _ q222) (hts _ q32) hK hP hD hS hA rfl l_def1 (Nat.le_of_ble_eq_true rfl) (Nat.le_of_ble_eq_true rfl) dL_law_8 (fun o2 H hP hD hS => ?_)
  have hP : va_P (dC, dI) vwCl (dkW a1 d1 z0 ++ [(o2, .inr (1, moF0))]) H := hP
  have hD : va_D (fun q : Nat => s.heap.size ≤ q) (dkW a1 d1 z0 ++ [(o2, .inr (1, moF0))]) := hD
  refine W.widen (k := 14) (n := 142) (by omega) (by omega) ?_
  refine lv_dup hx hb dL_law_11 rfl ?_
  have hPc := hP.sub (ws' := [(o2, .inr (1, moF0))]) [13] rfl
  have hDc := hD.sub (ws' := [(o2, .inr (1, moF0))]) [13] (by decide) rfl
  have hKc := hK.sub (tys' := []) [] rfl
  have hFc := va_free (wc := [(o2, .inr (1, moF0))]) hD hS hA [13] rfl
  refine va_callv (va_runI (As := []) (rest := [.ref o2]) ⟨hx, hb, hml, hown, hts⟩ (mot_init l (dC, dI) o2 H.size) (cwI 0 hts (lw_meth q225) rfl rfl rfl (hts _ q32) (hts _ q223) (hts _ q224) rfl (by decide +kernel) ⟨Nat.le_of_ble_eq_true rfl, Nat.le_of_ble_eq_true rfl⟩) ⟨fun a U g mk q => by obtain ⟨q0, q1, qP, qK, qD⟩ := q; exact ⟨q0, q1, qP, va_K.moved (u := U) (U := U.calling g mk a) (Vm.Alike.refl U.vm) qK, qD⟩, fun U hU hW => ⟨rfl, by rw [hU], by rw [hU]; exact hPc, va_K.moved hW.alike hKc, hDc.weaken (fun _ _ _ _ => trivial)⟩⟩ rfl rfl hl.1 rfl (lv_room (Nat.le_of_ble_eq_true rfl)) dL_law_12 ⟨Nat.le_of_ble_eq_true rfl, Nat.le_of_ble_eq_true rfl⟩) hS (fun q _ h => hFc q h) hFc (fun u t H1 locs ht hvm hw2 hB hz1 hk1 hS => ?_)
  obtain ⟨a2, d2⟩ := u
  have hw2 : a2 0 = o2 := hw2
  obtain ⟨hP1, hK1, hD1⟩ := hB
  rw [ht] at hP1
  have hK1 := va_K.moved hvm.symm hK1
  obtain ⟨hP, hD⟩ := va_join (wr := dkW a1 d1 z0) (w1 := moW a2 d2 z0) hP hD [13] [0, 1, 2, 3, 4, 5, 6, 7, 8, 9, 10, 11, 12] rfl rfl (by decide) (by decide) hk1 hFc hP1 hD1
  have hK := hK.app hK1
  generalize H1 = H at hP hS ⊢
  refine W.widen (k := 600000) (n := 7290000) (by omega) (by omega) ?_
  refine lv_astore_n (lv' := [(2, .ref o2), (1, .ref o1), (0, .ref b)]) hx hb dL_law_15 rfl hl (by decide) rfl (fun ls hl => ?_)
  rw [← hw2, ← hw1] at hl
  exact l_rest (a1 := a1) (a2 := a2) (d1 := d1) (d2 := d2) l hL C0 hK hP hD hS hl
set_option maxHeartbeats 4000000 in
theorem lw_walk (l : Launch) (b : Addr) (xs : List Int32) : MetFree l x (headSpec (Jvm.Cond.code x code maxLocals ret :: tables_1) room_1) (lw_P b xs) (fun _ _ _ _ _ => True) lw_Q := by
  refine MetFree.of_bodyS (code := code) (maxLocals := maxLocals) (ret := ret) (by decide) ?_ ?_
  · intro args s m h hn
    obtain ⟨meth, c, h1, h2, h3, h4, h5, h6, -, -⟩ := Cond.code_spec hn (atoms_spec (ws := Jvm.Cond.code x code maxLocals ret :: tables_1) h _ List.mem_cons_self)
    exact ⟨meth, c, h1, h2, h3, h4, h5, h6⟩
  · intro p e s m args below meth c s₁ B hml0 hP _
    obtain ⟨rfl, hx, hbd, hgv⟩ := hP
    obtain ⟨scr, harrAt, hlist, hof, hsmall⟩ := hx
    obtain ⟨hcb, hkn, -, -⟩ := State.arrayAt?_spec harrAt
    have hown : s.vm.findClass R_law = some m.cls := findClass_of_methodNamed B.named
    have hts0 : ∀ c ∈ (Jvm.Cond.code x code maxLocals ret :: tables_1), c.before #[Value.ref b] s = true := atoms_spec (ws := Jvm.Cond.code x code maxLocals ret :: tables_1) B.pre
    have hts : ∀ w ∈ lw_tbl, w.before #[Value.ref b] s = true := k2_hts_sels lw_privs (fun w hw => hts0 w (List.mem_cons_of_mem _ hw)) lw_privs_ok
    have hml : c.maxLocals = 4 := B.maxLocals_eq (hts0 _ List.mem_cons_self)
    have X₀ : Stand p l e room_1 s m #[Value.ref b] below meth c s₁ [] 0 0 := Stand.of_body B
    have hh0 : s₁.heap = s.heap := by rw [B.state]; rfl
    have hsz : scr.slots.size = xs.length := by rw [← Array.length_toList, hlist, List.length_map]
    have hval : ∀ j : Nat, j < xs.length → scr.slots[j]? = some (.int (xs.getD j 0)) := fun j hj => by
      rw [← Array.getElem?_toList, hlist]
      simp [hj]
    have hbl : b < s.heap.size := (Array.getElem?_eq_some_iff.mp hcb).1
    have hX : va_X b xs.length (fun j => xs.getD j 0) s s.heap := ⟨scr, hcb, hof, hkn, hsz, hval⟩
    have K : W p l e room_1 s m #[Value.ref b] below meth c s₁.heap [] 0 0 (lw_Z below #[Value.ref b] s) (entryFrame m ([Value.ref b] : List Value).toArray 4) := by
      rw [hh0]
      exact whole_start l hbd ⟨B.exec, B.bytes, B.returns, hml, hown, hts, hX, hbl, B.notSynchronized, hgv⟩
    obtain ⟨t, a1, o, b1, b2, b3⟩ := K s₁ rfl X₀
    exact ⟨t, o, a1, b1, b2, b3⟩
theorem lw_pre_spec {args : Array Value} {s : State} (h : (Jvm.Cond.and given_1 narrow_1).before args s = true) (hr : rest_1_c.before args s = true) : ∃ (b : Addr) (xs : List Int32), lw_P b xs args s := by
  have hs := flat_of_before _ h
  have hq := flat_of_before _ hr
  have hc : (Cond.count 1).before args s = true := hs _ (by decide +kernel)
  have harr : (Cond.arrayOf (.arg 0) .int).before args s = true := hs _ (by decide +kernel)
  have hle : (Cond.le (.length (.arg 0)) (.int 256)).before args s = true := hs _ (by decide +kernel)
  have hlen : (Cond.isInt (.length (.arg 0))).before args s = true := hq _ (by decide +kernel)
  have hall : (Cond.all (.arg 0) (.isInt (.elem (.arg 0) (.index 0)))).before args s = true := hq _ (by decide +kernel)
  obtain ⟨b, xs, hb, hx⟩ := State.ints_of_pre rfl harr hlen hall
  have hsm : xs.length < 2 ^ 31 := hx.choose_spec.2.2.2
  have hev : (Term.length (.arg 0)).eval args s none [] s = some (.int xs.length.toInt32) := hx.length_eval hb
  have hv := Cond.le_ints hev (show (Term.int 256).eval args s none [] s = some (.int 256) from rfl)
  have hd : xs.length.toInt32 ≤ 256 := by
    simpa [Cond.before, Cond.holds, hv] using hle
  have hN : xs.length ≤ 256 := (Int32.ofNat_le_ofNat hsm (by decide)).mp (show Int32.ofNat xs.length ≤ Int32.ofNat 256 from hd)
  exact ⟨b, xs, Cond.one_arg hc (show args[0]? = some (.ref b) from hb), hx, hN, h⟩
theorem lw_comes (l : Launch) : Comes l x (Jvm.Cond.code x code maxLocals ret :: tables_1) room_1 (fun tb e args s => Calls_1 tb e args s ∧ rest_1 tb e args s ∧ Pre_1 tb e args s)
    (fun _ _ args s o t => lw_Q args s o t) := by
  intro p e ha hc hk s m args below hf hfit hheap happ hpre
  obtain ⟨b, xs, hP⟩ := lw_pre_spec hpre.2.2 hpre.2.1
  obtain ⟨k, o, h1, h2, h3, hQ⟩ := lw_walk l b xs p e ha hc hk s m args below hf ((Spec.applies_iff_loose hf).mp happ).1 hP trivial
  exact ⟨k, o, h1, h2, h3, hQ⟩
theorem lw_frame {s t : State} {o : Outcome} {args : Array Value} (h : Framed s o t [] 600000 7290000) :
    Framed s o t (fieldLocs frame_1_writes args s ++ arrayLocs frame_1_arrays args s ++ staticLocs frame_1_statics s) 600000 7290000 := h
theorem lw_limb (L : Cond) (hL : ∀ (args : Array Value) (s t : State), L.after args s (.returned (some (.int 1))) t = true) :
    ArmFor flags0 classFile x code maxLocals ret World_1 tables_1 room_1 Calls_1 rest_1 Pre_1
      (fun tb e a s o t => postC L tb e a s o t ∧ Framed s o t (fieldLocs frame_1_writes a s ++ arrayLocs frame_1_arrays a s ++ staticLocs frame_1_statics s) 600000 7290000) := by
  intro l _ _ _ p e ha hc hk s m args below hf hfit hheap happ hpre
  obtain ⟨k, o, h1, h2, h3, rfl, hF⟩ := lw_comes l p e ha hc hk s m args below hf hfit hheap happ hpre
  exact ⟨k, _, h1, h2, h3, hL args s _, lw_frame hF⟩
theorem i_vc : Claimed_1_1 ∧ Claimed_1_2 := ⟨lw_limb limb_1_1 (fun args s t => by simp [limb_1_1, Cond.after, Cond.holds, Cond.value]), lw_limb limb_1_2 (fun args s t => Cond.after_iff.mpr (by
  first | (rw [show limb_1_2 = Cond.eq .result (.int 1) from rfl, Cond.eq_ints (x := 1) (y := 1) rfl rfl]; simp; done) | (simp [limb_1_2, Cond.value, Term.eval]; done)))⟩
end
