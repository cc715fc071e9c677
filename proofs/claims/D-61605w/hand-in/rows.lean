section
-- ===== PART A: goes FIRST, ahead of the names: the tables' words, and 'selects' of the private methods out of them =====
/-- a private method of a class that the tables say can be made, by its rows of tables_1 -/
def lw_okq (q : MethodName × Nat) : Prop := (q.1.cls ≠ "java/lang/invoke/MethodHandle" ∧ q.1.cls ≠ "java/lang/invoke/VarHandle") ∧ Cond.instantiable q.1.cls q.2 ∈ tables_1 ∧ Cond.privateMethod q.1 ∈ tables_1 ∧ Cond.instanceMethod q.1 ∈ tables_1
set_option maxRecDepth 100000
theorem lw_t1 {w : Cond} (h : w ∈ tables_1_1) : w ∈ tables_1 := List.mem_append_left _ h
theorem lw_t2 {w : Cond} (h : w ∈ tables_1_2) : w ∈ tables_1 := List.mem_append_right _ h
theorem lw_p0 : lw_okq (⟨"RaceFinder", "addSites", "(II)V"⟩, 33) := ⟨⟨by decide +kernel, by decide +kernel⟩, lw_t1 (List.mem_of_getElem? (i := 4) rfl), lw_t1 (List.mem_of_getElem? (i := 124) rfl), lw_t1 (List.mem_of_getElem? (i := 125) rfl)⟩
theorem lw_p1 : lw_okq (⟨"RaceFinder", "enqueue", "(I)V"⟩, 33) := ⟨⟨by decide +kernel, by decide +kernel⟩, lw_t1 (List.mem_of_getElem? (i := 4) rfl), lw_t1 (List.mem_of_getElem? (i := 128) rfl), lw_t1 (List.mem_of_getElem? (i := 129) rfl)⟩
theorem lw_p2 : lw_okq (⟨"RaceFinder", "solve", "()V"⟩, 33) := ⟨⟨by decide +kernel, by decide +kernel⟩, lw_t1 (List.mem_of_getElem? (i := 4) rfl), lw_t1 (List.mem_of_getElem? (i := 132) rfl), lw_t1 (List.mem_of_getElem? (i := 133) rfl)⟩
theorem lw_p3 : lw_okq (⟨"RaceFinder", "pass", "(I)V"⟩, 33) := ⟨⟨by decide +kernel, by decide +kernel⟩, lw_t1 (List.mem_of_getElem? (i := 4) rfl), lw_t1 (List.mem_of_getElem? (i := 136) rfl), lw_t1 (List.mem_of_getElem? (i := 137) rfl)⟩
theorem lw_p4 : lw_okq (⟨"RaceFinder", "edgesFromFields", "(III)V"⟩, 33) := ⟨⟨by decide +kernel, by decide +kernel⟩, lw_t1 (List.mem_of_getElem? (i := 4) rfl), lw_t1 (List.mem_of_getElem? (i := 140) rfl), lw_t1 (List.mem_of_getElem? (i := 141) rfl)⟩
theorem lw_p5 : lw_okq (⟨"RaceFinder", "addEdge", "(II)V"⟩, 33) := ⟨⟨by decide +kernel, by decide +kernel⟩, lw_t1 (List.mem_of_getElem? (i := 4) rfl), lw_t1 (List.mem_of_getElem? (i := 147) rfl), lw_t1 (List.mem_of_getElem? (i := 148) rfl)⟩
theorem lw_p6 : lw_okq (⟨"RaceFinder", "edgesToFields", "(III)V"⟩, 33) := ⟨⟨by decide +kernel, by decide +kernel⟩, lw_t1 (List.mem_of_getElem? (i := 4) rfl), lw_t1 (List.mem_of_getElem? (i := 151) rfl), lw_t1 (List.mem_of_getElem? (i := 152) rfl)⟩
theorem lw_p7 : lw_okq (⟨"RaceFinder", "tryCircle", "(II)V"⟩, 33) := ⟨⟨by decide +kernel, by decide +kernel⟩, lw_t1 (List.mem_of_getElem? (i := 4) rfl), lw_t1 (List.mem_of_getElem? (i := 155) rfl), lw_t1 (List.mem_of_getElem? (i := 156) rfl)⟩
theorem lw_p8 : lw_okq (⟨"RaceFinder", "reach", "(I)I"⟩, 33) := ⟨⟨by decide +kernel, by decide +kernel⟩, lw_t1 (List.mem_of_getElem? (i := 4) rfl), lw_t1 (List.mem_of_getElem? (i := 159) rfl), lw_t1 (List.mem_of_getElem? (i := 160) rfl)⟩
theorem lw_p9 : lw_okq (⟨"RaceFinder", "leadersOf", "(I)I"⟩, 33) := ⟨⟨by decide +kernel, by decide +kernel⟩, lw_t1 (List.mem_of_getElem? (i := 4) rfl), lw_t1 (List.mem_of_getElem? (i := 163) rfl), lw_t1 (List.mem_of_getElem? (i := 164) rfl)⟩
theorem lw_p10 : lw_okq (⟨"RaceFinder", "join", "(II)V"⟩, 33) := ⟨⟨by decide +kernel, by decide +kernel⟩, lw_t1 (List.mem_of_getElem? (i := 4) rfl), lw_t1 (List.mem_of_getElem? (i := 167) rfl), lw_t1 (List.mem_of_getElem? (i := 168) rfl)⟩
theorem lw_p11 : lw_okq (⟨"RaceFinder", "badPlace", "(I)Z"⟩, 33) := ⟨⟨by decide +kernel, by decide +kernel⟩, lw_t1 (List.mem_of_getElem? (i := 4) rfl), lw_t1 (List.mem_of_getElem? (i := 201) rfl), lw_t1 (List.mem_of_getElem? (i := 202) rfl)⟩
theorem lw_p12 : lw_okq (⟨"RaceFinder", "conflict", "(II)Z"⟩, 33) := ⟨⟨by decide +kernel, by decide +kernel⟩, lw_t1 (List.mem_of_getElem? (i := 4) rfl), lw_t1 (List.mem_of_getElem? (i := 217) rfl), lw_t1 (List.mem_of_getElem? (i := 218) rfl)⟩
theorem lw_p13 : lw_okq (⟨"RaceFinder", "threadOf", "(I)I"⟩, 33) := ⟨⟨by decide +kernel, by decide +kernel⟩, lw_t1 (List.mem_of_getElem? (i := 4) rfl), lw_t1 (List.mem_of_getElem? (i := 221) rfl), lw_t1 (List.mem_of_getElem? (i := 222) rfl)⟩
theorem lw_p14 : lw_okq (⟨"RaceFinder", "heldAt", "(I)I"⟩, 33) := ⟨⟨by decide +kernel, by decide +kernel⟩, lw_t1 (List.mem_of_getElem? (i := 4) rfl), lw_t1 (List.mem_of_getElem? (i := 225) rfl), lw_t1 (List.mem_of_getElem? (i := 226) rfl)⟩
theorem lw_p15 : lw_okq (⟨"RaceFinder", "makeSteps", "()V"⟩, 33) := ⟨⟨by decide +kernel, by decide +kernel⟩, lw_t1 (List.mem_of_getElem? (i := 4) rfl), lw_t2 (List.mem_of_getElem? (i := 1) rfl), lw_t2 (List.mem_of_getElem? (i := 2) rfl)⟩
def lw_privs_1 : List (MethodName × Nat) := [(⟨"RaceFinder", "addSites", "(II)V"⟩, 33), (⟨"RaceFinder", "enqueue", "(I)V"⟩, 33), (⟨"RaceFinder", "solve", "()V"⟩, 33), (⟨"RaceFinder", "pass", "(I)V"⟩, 33), (⟨"RaceFinder", "edgesFromFields", "(III)V"⟩, 33), (⟨"RaceFinder", "addEdge", "(II)V"⟩, 33), (⟨"RaceFinder", "edgesToFields", "(III)V"⟩, 33), (⟨"RaceFinder", "tryCircle", "(II)V"⟩, 33), (⟨"RaceFinder", "reach", "(I)I"⟩, 33), (⟨"RaceFinder", "leadersOf", "(I)I"⟩, 33), (⟨"RaceFinder", "join", "(II)V"⟩, 33), (⟨"RaceFinder", "badPlace", "(I)Z"⟩, 33), (⟨"RaceFinder", "conflict", "(II)Z"⟩, 33), (⟨"RaceFinder", "threadOf", "(I)I"⟩, 33), (⟨"RaceFinder", "heldAt", "(I)I"⟩, 33), (⟨"RaceFinder", "makeSteps", "()V"⟩, 33)]
theorem lw_r1 : ∀ q ∈ lw_privs_1, lw_okq q := List.forall_mem_cons.mpr ⟨lw_p0, List.forall_mem_cons.mpr ⟨lw_p1, List.forall_mem_cons.mpr ⟨lw_p2, List.forall_mem_cons.mpr ⟨lw_p3, List.forall_mem_cons.mpr ⟨lw_p4, List.forall_mem_cons.mpr ⟨lw_p5, List.forall_mem_cons.mpr ⟨lw_p6, List.forall_mem_cons.mpr ⟨lw_p7, List.forall_mem_cons.mpr ⟨lw_p8, List.forall_mem_cons.mpr ⟨lw_p9, List.forall_mem_cons.mpr ⟨lw_p10, List.forall_mem_cons.mpr ⟨lw_p11, List.forall_mem_cons.mpr ⟨lw_p12, List.forall_mem_cons.mpr ⟨lw_p13, List.forall_mem_cons.mpr ⟨lw_p14, List.forall_mem_cons.mpr ⟨lw_p15, fun _ h => absurd h List.not_mem_nil⟩⟩⟩⟩⟩⟩⟩⟩⟩⟩⟩⟩⟩⟩⟩⟩
theorem lw_p16 : lw_okq (⟨"RaceFinder", "addSteps", "(III)V"⟩, 33) := ⟨⟨by decide +kernel, by decide +kernel⟩, lw_t1 (List.mem_of_getElem? (i := 4) rfl), lw_t2 (List.mem_of_getElem? (i := 5) rfl), lw_t2 (List.mem_of_getElem? (i := 6) rfl)⟩
theorem lw_p17 : lw_okq (⟨"RaceFinder", "walk", "(IZ)I"⟩, 33) := ⟨⟨by decide +kernel, by decide +kernel⟩, lw_t1 (List.mem_of_getElem? (i := 4) rfl), lw_t2 (List.mem_of_getElem? (i := 9) rfl), lw_t2 (List.mem_of_getElem? (i := 10) rfl)⟩
theorem lw_p18 : lw_okq (⟨"RaceFinder", "stepFrom", "(IIZ)Z"⟩, 33) := ⟨⟨by decide +kernel, by decide +kernel⟩, lw_t1 (List.mem_of_getElem? (i := 4) rfl), lw_t2 (List.mem_of_getElem? (i := 13) rfl), lw_t2 (List.mem_of_getElem? (i := 14) rfl)⟩
theorem lw_p19 : lw_okq (⟨"RaceFinder", "twoThreads", "(I)Z"⟩, 33) := ⟨⟨by decide +kernel, by decide +kernel⟩, lw_t1 (List.mem_of_getElem? (i := 4) rfl), lw_t2 (List.mem_of_getElem? (i := 17) rfl), lw_t2 (List.mem_of_getElem? (i := 18) rfl)⟩
theorem lw_p20 : lw_okq (⟨"RaceFinderModel", "badV", "(I)Z"⟩, 25) := ⟨⟨by decide +kernel, by decide +kernel⟩, lw_t2 (List.mem_of_getElem? (i := 21) rfl), lw_t2 (List.mem_of_getElem? (i := 107) rfl), lw_t2 (List.mem_of_getElem? (i := 108) rfl)⟩
theorem lw_p21 : lw_okq (⟨"RaceFinderModel", "workOut", "()V"⟩, 25) := ⟨⟨by decide +kernel, by decide +kernel⟩, lw_t2 (List.mem_of_getElem? (i := 21) rfl), lw_t2 (List.mem_of_getElem? (i := 111) rfl), lw_t2 (List.mem_of_getElem? (i := 112) rfl)⟩
theorem lw_p22 : lw_okq (⟨"RaceFinderModel", "sweep", "()V"⟩, 25) := ⟨⟨by decide +kernel, by decide +kernel⟩, lw_t2 (List.mem_of_getElem? (i := 21) rfl), lw_t2 (List.mem_of_getElem? (i := 115) rfl), lw_t2 (List.mem_of_getElem? (i := 116) rfl)⟩
theorem lw_p23 : lw_okq (⟨"RaceFinderModel", "total", "()I"⟩, 25) := ⟨⟨by decide +kernel, by decide +kernel⟩, lw_t2 (List.mem_of_getElem? (i := 21) rfl), lw_t2 (List.mem_of_getElem? (i := 119) rfl), lw_t2 (List.mem_of_getElem? (i := 120) rfl)⟩
theorem lw_p24 : lw_okq (⟨"RaceFinderModel", "size", "(I)I"⟩, 25) := ⟨⟨by decide +kernel, by decide +kernel⟩, lw_t2 (List.mem_of_getElem? (i := 21) rfl), lw_t2 (List.mem_of_getElem? (i := 123) rfl), lw_t2 (List.mem_of_getElem? (i := 124) rfl)⟩
theorem lw_p25 : lw_okq (⟨"RaceFinderModel", "badF", "(I)Z"⟩, 25) := ⟨⟨by decide +kernel, by decide +kernel⟩, lw_t2 (List.mem_of_getElem? (i := 21) rfl), lw_t2 (List.mem_of_getElem? (i := 135) rfl), lw_t2 (List.mem_of_getElem? (i := 136) rfl)⟩
theorem lw_p26 : lw_okq (⟨"RaceFinderModel", "badPlace", "(I)Z"⟩, 25) := ⟨⟨by decide +kernel, by decide +kernel⟩, lw_t2 (List.mem_of_getElem? (i := 21) rfl), lw_t2 (List.mem_of_getElem? (i := 155) rfl), lw_t2 (List.mem_of_getElem? (i := 156) rfl)⟩
theorem lw_p27 : lw_okq (⟨"RaceFinderModel", "threadAt", "(I)I"⟩, 25) := ⟨⟨by decide +kernel, by decide +kernel⟩, lw_t2 (List.mem_of_getElem? (i := 21) rfl), lw_t2 (List.mem_of_getElem? (i := 171) rfl), lw_t2 (List.mem_of_getElem? (i := 172) rfl)⟩
theorem lw_p28 : lw_okq (⟨"RaceFinderModel", "allSteps", "()V"⟩, 25) := ⟨⟨by decide +kernel, by decide +kernel⟩, lw_t2 (List.mem_of_getElem? (i := 21) rfl), lw_t2 (List.mem_of_getElem? (i := 189) rfl), lw_t2 (List.mem_of_getElem? (i := 190) rfl)⟩
theorem lw_p29 : lw_okq (⟨"RaceFinderModel", "step", "(III)V"⟩, 25) := ⟨⟨by decide +kernel, by decide +kernel⟩, lw_t2 (List.mem_of_getElem? (i := 21) rfl), lw_t2 (List.mem_of_getElem? (i := 193) rfl), lw_t2 (List.mem_of_getElem? (i := 194) rfl)⟩
theorem lw_p30 : lw_okq (⟨"RaceFinderModel", "allWays", "()V"⟩, 25) := ⟨⟨by decide +kernel, by decide +kernel⟩, lw_t2 (List.mem_of_getElem? (i := 21) rfl), lw_t2 (List.mem_of_getElem? (i := 197) rfl), lw_t2 (List.mem_of_getElem? (i := 198) rfl)⟩
theorem lw_p31 : lw_okq (⟨"RaceFinderModel", "beyond", "(I)I"⟩, 25) := ⟨⟨by decide +kernel, by decide +kernel⟩, lw_t2 (List.mem_of_getElem? (i := 21) rfl), lw_t2 (List.mem_of_getElem? (i := 201) rfl), lw_t2 (List.mem_of_getElem? (i := 202) rfl)⟩
def lw_privs_2 : List (MethodName × Nat) := [(⟨"RaceFinder", "addSteps", "(III)V"⟩, 33), (⟨"RaceFinder", "walk", "(IZ)I"⟩, 33), (⟨"RaceFinder", "stepFrom", "(IIZ)Z"⟩, 33), (⟨"RaceFinder", "twoThreads", "(I)Z"⟩, 33), (⟨"RaceFinderModel", "badV", "(I)Z"⟩, 25), (⟨"RaceFinderModel", "workOut", "()V"⟩, 25), (⟨"RaceFinderModel", "sweep", "()V"⟩, 25), (⟨"RaceFinderModel", "total", "()I"⟩, 25), (⟨"RaceFinderModel", "size", "(I)I"⟩, 25), (⟨"RaceFinderModel", "badF", "(I)Z"⟩, 25), (⟨"RaceFinderModel", "badPlace", "(I)Z"⟩, 25), (⟨"RaceFinderModel", "threadAt", "(I)I"⟩, 25), (⟨"RaceFinderModel", "allSteps", "()V"⟩, 25), (⟨"RaceFinderModel", "step", "(III)V"⟩, 25), (⟨"RaceFinderModel", "allWays", "()V"⟩, 25), (⟨"RaceFinderModel", "beyond", "(I)I"⟩, 25)]
theorem lw_r2 : ∀ q ∈ lw_privs_2, lw_okq q := List.forall_mem_cons.mpr ⟨lw_p16, List.forall_mem_cons.mpr ⟨lw_p17, List.forall_mem_cons.mpr ⟨lw_p18, List.forall_mem_cons.mpr ⟨lw_p19, List.forall_mem_cons.mpr ⟨lw_p20, List.forall_mem_cons.mpr ⟨lw_p21, List.forall_mem_cons.mpr ⟨lw_p22, List.forall_mem_cons.mpr ⟨lw_p23, List.forall_mem_cons.mpr ⟨lw_p24, List.forall_mem_cons.mpr ⟨lw_p25, List.forall_mem_cons.mpr ⟨lw_p26, List.forall_mem_cons.mpr ⟨lw_p27, List.forall_mem_cons.mpr ⟨lw_p28, List.forall_mem_cons.mpr ⟨lw_p29, List.forall_mem_cons.mpr ⟨lw_p30, List.forall_mem_cons.mpr ⟨lw_p31, fun _ h => absurd h List.not_mem_nil⟩⟩⟩⟩⟩⟩⟩⟩⟩⟩⟩⟩⟩⟩⟩⟩
theorem lw_p32 : lw_okq (⟨"RaceFinderModel", "threadsAround", "(I)I"⟩, 25) := ⟨⟨by decide +kernel, by decide +kernel⟩, lw_t2 (List.mem_of_getElem? (i := 21) rfl), lw_t2 (List.mem_of_getElem? (i := 205) rfl), lw_t2 (List.mem_of_getElem? (i := 206) rfl)⟩
def lw_privs_3 : List (MethodName × Nat) := [(⟨"RaceFinderModel", "threadsAround", "(I)I"⟩, 25)]
theorem lw_r3 : ∀ q ∈ lw_privs_3, lw_okq q := List.forall_mem_cons.mpr ⟨lw_p32, fun _ h => absurd h List.not_mem_nil⟩
def lw_privs : List (MethodName × Nat) := lw_privs_1 ++ (lw_privs_2 ++ (lw_privs_3))
def lw_tbl : List Cond := k2_sels lw_privs ++ tables_1
theorem lw_privs_ok : ∀ q ∈ lw_privs, lw_okq q := by
  show ∀ q ∈ lw_privs_1 ++ (lw_privs_2 ++ (lw_privs_3)), lw_okq q
  exact List.forall_mem_append.mpr ⟨lw_r1, List.forall_mem_append.mpr ⟨lw_r2, lw_r3⟩⟩
-- ===== ONE list of words for every method: the tables' words that hold all through a run =====
def lw_all : List Cond := lw_tbl.filter goodWord
/-- a word of the tables by its place: claim/WORDS.tsv -/
theorem lw_w {w : Cond} (i : Nat) (h : lw_tbl[i]? = some w) (g : goodWord w = true) : w ∈ lw_all := List.mem_filter.mpr ⟨List.mem_of_getElem? h, g⟩
theorem lw_all_tbl {w : Cond} (h : w ∈ lw_all) : w ∈ lw_tbl := (List.mem_filter.mp h).1
theorem lw_self : GoodIn lw_all lw_all := fun w h => ⟨h, good_of_word (List.mem_filter.mp h).2⟩
/-- a class's field words, by their places -/
theorem lw_in (ws : List Cond) (ps : List Nat) (hp : ws = ps.filterMap (fun i => lw_tbl[i]?)) (hg : ws.all goodWord = true) : ∀ w ∈ ws, w ∈ lw_all := by
  intro w h
  have h1 := List.all_eq_true.mp hg w h
  rw [hp] at h
  obtain ⟨i, -, hi⟩ := List.mem_filterMap.mp h
  exact lw_w i hi h1
/-- the words of a contract for the method y with code b, L locals, answer r -/
abbrev ws_ (y : MethodName) (b : ByteArray) (L : Nat) (r : Option FieldType) : List Cond := Cond.code y b L r :: lw_all
theorem lw_meth {y : MethodName} {b : ByteArray} {L : Nat} {r : Option FieldType} (h : Cond.code y b L r ∈ lw_all) : GoodIn lw_all (ws_ y b L r) := by
  intro w hw
  rcases List.mem_cons.mp hw with e | e
  · rw [e]
    exact lw_self _ h
  · exact lw_self _ e
theorem lw_app {a c : List Cond} (ha : ∀ w ∈ a, w ∈ lw_all) (hc : GoodIn lw_all c) : GoodIn lw_all (a ++ c) := by
  intro w hw
  rcases List.mem_append.mp hw with e | e
  · exact lw_self w (ha w e)
  · exact hc w e
/-- what a call through an object asks: cwV n hts (lw_V ..) -/
theorem lw_V {own : String} {idx : Nat} {C : String} {y : MethodName} {b : ByteArray} {L : Nat} {r : Option FieldType} (h1 : Cond.methodLink own idx y ∈ lw_all) (h2 : Cond.instanceMethod y ∈ lw_all) (h3 : Cond.selects C y y ∈ lw_all) (h4 : Cond.initialized C ∈ lw_all) (h5 : Cond.code y b L r ∈ lw_all) : GoodIn lw_all (wsV own idx C y (ws_ y b L r)) := by
  refine lw_app ?_ (lw_meth h5)
  intro w hw
  simp only [List.mem_cons, List.not_mem_nil, or_false] at hw
  rcases hw with e | e | e | e
  · rw [e]; exact h1
  · rw [e]; exact h2
  · rw [e]; exact h3
  · rw [e]; exact h4
/-- what a static call asks: va_cwS n hts (lw_S ..) -/
theorem lw_S {own : String} {idx : Nat} {y : MethodName} {b : ByteArray} {L : Nat} {r : Option FieldType} (h1 : Cond.methodLink own idx y ∈ lw_all) (h2 : Cond.static y ∈ lw_all) (h3 : Cond.initialized y.cls ∈ lw_all) (h4 : Cond.code y b L r ∈ lw_all) : GoodIn lw_all (va_wsS own idx y (ws_ y b L r)) := by
  refine lw_app ?_ (lw_meth h4)
  intro w hw
  simp only [List.mem_cons, List.not_mem_nil, or_false] at hw
  rcases hw with e | e | e
  · rw [e]; exact h1
  · rw [e]; exact h2
  · rw [e]; exact h3
/-- the words of a contract for a method WITH HANDLERS (hh: its table) -/
abbrev wsW_ (y : MethodName) (b : ByteArray) (L : Nat) (r : Option FieldType) (hh : List (Nat × Nat × Nat × Nat)) : List Cond := Cond.codeWith y b L r hh :: lw_all
theorem lw_methW {y : MethodName} {b : ByteArray} {L : Nat} {r : Option FieldType} {hh : List (Nat × Nat × Nat × Nat)} (h : Cond.codeWith y b L r hh ∈ lw_all) : GoodIn lw_all (wsW_ y b L r hh) := by
  intro w hw
  rcases List.mem_cons.mp hw with e | e
  · rw [e]
    exact lw_self _ h
  · exact lw_self _ e
/-- any list of words by their places (lw_in), good -/
theorem lw_good {ws : List Cond} (h : ∀ w ∈ ws, w ∈ lw_all) : GoodIn lw_all ws := fun w hw => lw_self w (h w hw)
/-- what a call of a method with handlers asks: vx_cwVW n hts (lw_VW ..), vx_cwSW n hts (lw_SW ..) -/
theorem lw_VW {own : String} {idx : Nat} {C : String} {y : MethodName} {b : ByteArray} {L : Nat} {r : Option FieldType} {hh : List (Nat × Nat × Nat × Nat)} (h1 : Cond.methodLink own idx y ∈ lw_all) (h2 : Cond.instanceMethod y ∈ lw_all) (h3 : Cond.selects C y y ∈ lw_all) (h4 : Cond.initialized C ∈ lw_all) (h5 : Cond.codeWith y b L r hh ∈ lw_all) : GoodIn lw_all (wsV own idx C y (wsW_ y b L r hh)) := by
  refine lw_app ?_ (lw_methW h5)
  intro w hw
  simp only [List.mem_cons, List.not_mem_nil, or_false] at hw
  rcases hw with e | e | e | e
  · rw [e]; exact h1
  · rw [e]; exact h2
  · rw [e]; exact h3
  · rw [e]; exact h4
theorem lw_SW {own : String} {idx : Nat} {y : MethodName} {b : ByteArray} {L : Nat} {r : Option FieldType} {hh : List (Nat × Nat × Nat × Nat)} (h1 : Cond.methodLink own idx y ∈ lw_all) (h2 : Cond.static y ∈ lw_all) (h3 : Cond.initialized y.cls ∈ lw_all) (h4 : Cond.codeWith y b L r hh ∈ lw_all) : GoodIn lw_all (va_wsS own idx y (wsW_ y b L r hh)) := by
  refine lw_app ?_ (lw_methW h4)
  intro w hw
  simp only [List.mem_cons, List.not_mem_nil, or_false] at hw
  rcases hw with e | e | e
  · rw [e]; exact h1
  · rw [e]; exact h2
  · rw [e]; exact h3
/-- a word by its place in its run of the tables -/
theorem lw_at {r : List Cond} (hr : ∀ w ∈ r, w ∈ lw_tbl) {w : Cond} (i : Nat) (h : r[i]? = some w) : w ∈ lw_tbl := hr w (List.mem_of_getElem? h)
theorem lw_g {w : Cond} (h : w ∈ lw_tbl) (g : goodWord w = true) : w ∈ lw_all := List.mem_filter.mpr ⟨h, g⟩
theorem lw_ms : ∀ w ∈ k2_sels lw_privs, w ∈ lw_tbl := fun w h => show w ∈ k2_sels lw_privs ++ tables_1 from List.mem_append_left _ h
theorem lw_m1 : ∀ w ∈ tables_1_1, w ∈ lw_tbl := fun w h => show w ∈ k2_sels lw_privs ++ tables_1 from List.mem_append_right (k2_sels lw_privs) (show w ∈ tables_1 from List.mem_append_left _ h)
theorem lw_m2 : ∀ w ∈ tables_1_2, w ∈ lw_tbl := fun w h => show w ∈ k2_sels lw_privs ++ tables_1 from List.mem_append_right (k2_sels lw_privs) (show w ∈ tables_1 from List.mem_append_right _ h)
theorem qs0 : (Cond.selects "RaceFinder" ⟨"RaceFinder", "addSites", "(II)V"⟩ ⟨"RaceFinder", "addSites", "(II)V"⟩) ∈ lw_all := lw_g (lw_at lw_ms 0 rfl) rfl
theorem qs1 : (Cond.selects "RaceFinder" ⟨"RaceFinder", "enqueue", "(I)V"⟩ ⟨"RaceFinder", "enqueue", "(I)V"⟩) ∈ lw_all := lw_g (lw_at lw_ms 1 rfl) rfl
theorem qs2 : (Cond.selects "RaceFinder" ⟨"RaceFinder", "solve", "()V"⟩ ⟨"RaceFinder", "solve", "()V"⟩) ∈ lw_all := lw_g (lw_at lw_ms 2 rfl) rfl
theorem qs3 : (Cond.selects "RaceFinder" ⟨"RaceFinder", "pass", "(I)V"⟩ ⟨"RaceFinder", "pass", "(I)V"⟩) ∈ lw_all := lw_g (lw_at lw_ms 3 rfl) rfl
theorem qs4 : (Cond.selects "RaceFinder" ⟨"RaceFinder", "edgesFromFields", "(III)V"⟩ ⟨"RaceFinder", "edgesFromFields", "(III)V"⟩) ∈ lw_all := lw_g (lw_at lw_ms 4 rfl) rfl
theorem qs5 : (Cond.selects "RaceFinder" ⟨"RaceFinder", "addEdge", "(II)V"⟩ ⟨"RaceFinder", "addEdge", "(II)V"⟩) ∈ lw_all := lw_g (lw_at lw_ms 5 rfl) rfl
theorem qs6 : (Cond.selects "RaceFinder" ⟨"RaceFinder", "edgesToFields", "(III)V"⟩ ⟨"RaceFinder", "edgesToFields", "(III)V"⟩) ∈ lw_all := lw_g (lw_at lw_ms 6 rfl) rfl
theorem qs7 : (Cond.selects "RaceFinder" ⟨"RaceFinder", "tryCircle", "(II)V"⟩ ⟨"RaceFinder", "tryCircle", "(II)V"⟩) ∈ lw_all := lw_g (lw_at lw_ms 7 rfl) rfl
theorem qs8 : (Cond.selects "RaceFinder" ⟨"RaceFinder", "reach", "(I)I"⟩ ⟨"RaceFinder", "reach", "(I)I"⟩) ∈ lw_all := lw_g (lw_at lw_ms 8 rfl) rfl
theorem qs9 : (Cond.selects "RaceFinder" ⟨"RaceFinder", "leadersOf", "(I)I"⟩ ⟨"RaceFinder", "leadersOf", "(I)I"⟩) ∈ lw_all := lw_g (lw_at lw_ms 9 rfl) rfl
theorem qs10 : (Cond.selects "RaceFinder" ⟨"RaceFinder", "join", "(II)V"⟩ ⟨"RaceFinder", "join", "(II)V"⟩) ∈ lw_all := lw_g (lw_at lw_ms 10 rfl) rfl
theorem qs11 : (Cond.selects "RaceFinder" ⟨"RaceFinder", "badPlace", "(I)Z"⟩ ⟨"RaceFinder", "badPlace", "(I)Z"⟩) ∈ lw_all := lw_g (lw_at lw_ms 11 rfl) rfl
theorem qs12 : (Cond.selects "RaceFinder" ⟨"RaceFinder", "conflict", "(II)Z"⟩ ⟨"RaceFinder", "conflict", "(II)Z"⟩) ∈ lw_all := lw_g (lw_at lw_ms 12 rfl) rfl
theorem qs13 : (Cond.selects "RaceFinder" ⟨"RaceFinder", "threadOf", "(I)I"⟩ ⟨"RaceFinder", "threadOf", "(I)I"⟩) ∈ lw_all := lw_g (lw_at lw_ms 13 rfl) rfl
theorem qs14 : (Cond.selects "RaceFinder" ⟨"RaceFinder", "heldAt", "(I)I"⟩ ⟨"RaceFinder", "heldAt", "(I)I"⟩) ∈ lw_all := lw_g (lw_at lw_ms 14 rfl) rfl
theorem qs15 : (Cond.selects "RaceFinder" ⟨"RaceFinder", "makeSteps", "()V"⟩ ⟨"RaceFinder", "makeSteps", "()V"⟩) ∈ lw_all := lw_g (lw_at lw_ms 15 rfl) rfl
theorem qs16 : (Cond.selects "RaceFinder" ⟨"RaceFinder", "addSteps", "(III)V"⟩ ⟨"RaceFinder", "addSteps", "(III)V"⟩) ∈ lw_all := lw_g (lw_at lw_ms 16 rfl) rfl
theorem qs17 : (Cond.selects "RaceFinder" ⟨"RaceFinder", "walk", "(IZ)I"⟩ ⟨"RaceFinder", "walk", "(IZ)I"⟩) ∈ lw_all := lw_g (lw_at lw_ms 17 rfl) rfl
theorem qs18 : (Cond.selects "RaceFinder" ⟨"RaceFinder", "stepFrom", "(IIZ)Z"⟩ ⟨"RaceFinder", "stepFrom", "(IIZ)Z"⟩) ∈ lw_all := lw_g (lw_at lw_ms 18 rfl) rfl
theorem qs19 : (Cond.selects "RaceFinder" ⟨"RaceFinder", "twoThreads", "(I)Z"⟩ ⟨"RaceFinder", "twoThreads", "(I)Z"⟩) ∈ lw_all := lw_g (lw_at lw_ms 19 rfl) rfl
theorem qs20 : (Cond.selects "RaceFinderModel" ⟨"RaceFinderModel", "badV", "(I)Z"⟩ ⟨"RaceFinderModel", "badV", "(I)Z"⟩) ∈ lw_all := lw_g (lw_at lw_ms 20 rfl) rfl
theorem qs21 : (Cond.selects "RaceFinderModel" ⟨"RaceFinderModel", "workOut", "()V"⟩ ⟨"RaceFinderModel", "workOut", "()V"⟩) ∈ lw_all := lw_g (lw_at lw_ms 21 rfl) rfl
theorem qs22 : (Cond.selects "RaceFinderModel" ⟨"RaceFinderModel", "sweep", "()V"⟩ ⟨"RaceFinderModel", "sweep", "()V"⟩) ∈ lw_all := lw_g (lw_at lw_ms 22 rfl) rfl
theorem qs23 : (Cond.selects "RaceFinderModel" ⟨"RaceFinderModel", "total", "()I"⟩ ⟨"RaceFinderModel", "total", "()I"⟩) ∈ lw_all := lw_g (lw_at lw_ms 23 rfl) rfl
theorem qs24 : (Cond.selects "RaceFinderModel" ⟨"RaceFinderModel", "size", "(I)I"⟩ ⟨"RaceFinderModel", "size", "(I)I"⟩) ∈ lw_all := lw_g (lw_at lw_ms 24 rfl) rfl
theorem qs25 : (Cond.selects "RaceFinderModel" ⟨"RaceFinderModel", "badF", "(I)Z"⟩ ⟨"RaceFinderModel", "badF", "(I)Z"⟩) ∈ lw_all := lw_g (lw_at lw_ms 25 rfl) rfl
theorem qs26 : (Cond.selects "RaceFinderModel" ⟨"RaceFinderModel", "badPlace", "(I)Z"⟩ ⟨"RaceFinderModel", "badPlace", "(I)Z"⟩) ∈ lw_all := lw_g (lw_at lw_ms 26 rfl) rfl
theorem qs27 : (Cond.selects "RaceFinderModel" ⟨"RaceFinderModel", "threadAt", "(I)I"⟩ ⟨"RaceFinderModel", "threadAt", "(I)I"⟩) ∈ lw_all := lw_g (lw_at lw_ms 27 rfl) rfl
theorem qs28 : (Cond.selects "RaceFinderModel" ⟨"RaceFinderModel", "allSteps", "()V"⟩ ⟨"RaceFinderModel", "allSteps", "()V"⟩) ∈ lw_all := lw_g (lw_at lw_ms 28 rfl) rfl
theorem qs29 : (Cond.selects "RaceFinderModel" ⟨"RaceFinderModel", "step", "(III)V"⟩ ⟨"RaceFinderModel", "step", "(III)V"⟩) ∈ lw_all := lw_g (lw_at lw_ms 29 rfl) rfl
theorem qs30 : (Cond.selects "RaceFinderModel" ⟨"RaceFinderModel", "allWays", "()V"⟩ ⟨"RaceFinderModel", "allWays", "()V"⟩) ∈ lw_all := lw_g (lw_at lw_ms 30 rfl) rfl
theorem qs31 : (Cond.selects "RaceFinderModel" ⟨"RaceFinderModel", "beyond", "(I)I"⟩ ⟨"RaceFinderModel", "beyond", "(I)I"⟩) ∈ lw_all := lw_g (lw_at lw_ms 31 rfl) rfl
theorem qs32 : (Cond.selects "RaceFinderModel" ⟨"RaceFinderModel", "threadsAround", "(I)I"⟩ ⟨"RaceFinderModel", "threadsAround", "(I)I"⟩) ∈ lw_all := lw_g (lw_at lw_ms 32 rfl) rfl
end
section
set_option maxRecDepth 100000
/-! RaceFinder -/
def RX0 : String := "RaceFinder"
def TX0 : u_T := fun k => match k with
  | 0 => ("RaceFinder", "leader", "[I", true)
  | 1 => ("RaceFinder", "sites", "[I", true)
  | 2 => ("RaceFinder", "fresh", "[I", true)
  | 3 => ("RaceFinder", "goesTo", "[I", true)
  | 4 => ("RaceFinder", "queued", "[Z", true)
  | 5 => ("RaceFinder", "queue", "[I", true)
  | 6 => ("RaceFinder", "head", "I", false)
  | 7 => ("RaceFinder", "tail", "I", false)
  | 8 => ("RaceFinder", "loads", "I", false)
  | 9 => ("RaceFinder", "loadTo", "[I", true)
  | 10 => ("RaceFinder", "loadFrom", "[I", true)
  | 11 => ("RaceFinder", "loadField", "[I", true)
  | 12 => ("RaceFinder", "stores", "I", false)
  | 13 => ("RaceFinder", "storeTo", "[I", true)
  | 14 => ("RaceFinder", "storeField", "[I", true)
  | 15 => ("RaceFinder", "storeFrom", "[I", true)
  | 16 => ("RaceFinder", "onceSet", "I", false)
  | 17 => ("RaceFinder", "regions", "I", false)
  | 18 => ("RaceFinder", "regionThread", "[I", true)
  | 19 => ("RaceFinder", "regionLock", "[I", true)
  | 20 => ("RaceFinder", "regionAround", "[I", true)
  | 21 => ("RaceFinder", "accesses", "I", false)
  | 22 => ("RaceFinder", "accessPlace", "[I", true)
  | 23 => ("RaceFinder", "accessVar", "[I", true)
  | 24 => ("RaceFinder", "accessField", "[I", true)
  | 25 => ("RaceFinder", "accessWrites", "[Z", true)
  | 26 => ("RaceFinder", "steps", "[I", true)
  | 27 => ("RaceFinder", "walked", "I", false)
  | 28 => ("RaceFinder", "finished", "[I", true)
  | 29 => ("RaceFinder", "finishedCount", "I", false)
  | 30 => ("RaceFinder", "leftOrder", "[I", true)
  | 31 => ("RaceFinder", "stack", "[I", true)
  | _ => ("RaceFinder", "nextSite", "[I", true)
def tyX0 : Nat → FieldType := fun k => match k with
  | 0 => .array .int
  | 1 => .array .int
  | 2 => .array .int
  | 3 => .array .int
  | 4 => .array .boolean
  | 5 => .array .int
  | 6 => .int
  | 7 => .int
  | 8 => .int
  | 9 => .array .int
  | 10 => .array .int
  | 11 => .array .int
  | 12 => .int
  | 13 => .array .int
  | 14 => .array .int
  | 15 => .array .int
  | 16 => .int
  | 17 => .int
  | 18 => .array .int
  | 19 => .array .int
  | 20 => .array .int
  | 21 => .int
  | 22 => .array .int
  | 23 => .array .int
  | 24 => .array .int
  | 25 => .array .boolean
  | 26 => .array .int
  | 27 => .int
  | 28 => .array .int
  | 29 => .int
  | 30 => .array .int
  | 31 => .array .int
  | _ => .array .int
abbrev wsX00 : List Cond := u_ws RX0 TX0 33
set_option maxRecDepth 100000 in
theorem nmX0 : ∀ a, a < 33 → ∀ b, b < 33 → a ≠ b → (TX0 a).2.1 ≠ (TX0 b).2.1 := by decide +kernel
set_option maxRecDepth 100000 in
theorem tyX0_ok : ∀ k, k < 33 → parseFieldDescriptor (TX0 k).2.2.1 = some (tyX0 k) := by decide +kernel
abbrev cX0_init : ByteArray := prog_1_method_1_code
def yX0_init : MethodName := ⟨RX0, "<init>", "()V"⟩
abbrev cX0_alloc : ByteArray := prog_1_method_18_code
def yX0_alloc : MethodName := ⟨RX0, "alloc", "(II)I"⟩
abbrev cX0_badVariable : ByteArray := prog_1_method_2_code
def yX0_badVariable : MethodName := ⟨RX0, "badVariable", "(I)Z"⟩
abbrev cX0_badSite : ByteArray := prog_1_method_3_code
def yX0_badSite : MethodName := ⟨RX0, "badSite", "(I)Z"⟩
abbrev cX0_addSites : ByteArray := prog_1_method_7_code
def yX0_addSites : MethodName := ⟨RX0, "addSites", "(II)V"⟩
abbrev cX0_enqueue : ByteArray := prog_1_method_8_code
def yX0_enqueue : MethodName := ⟨RX0, "enqueue", "(I)V"⟩
abbrev cX0_solve : ByteArray := prog_1_method_10_code
def yX0_solve : MethodName := ⟨RX0, "solve", "()V"⟩
abbrev cX0_pass : ByteArray := prog_1_method_11_code
def yX0_pass : MethodName := ⟨RX0, "pass", "(I)V"⟩
abbrev cX0_edgesFromFields : ByteArray := prog_1_method_12_code
def yX0_edgesFromFields : MethodName := ⟨RX0, "edgesFromFields", "(III)V"⟩
abbrev cX0_fieldNode : ByteArray := prog_1_method_5_code
def yX0_fieldNode : MethodName := ⟨RX0, "fieldNode", "(II)I"⟩
abbrev cX0_addEdge : ByteArray := prog_1_method_9_code
def yX0_addEdge : MethodName := ⟨RX0, "addEdge", "(II)V"⟩
abbrev cX0_edgesToFields : ByteArray := prog_1_method_13_code
def yX0_edgesToFields : MethodName := ⟨RX0, "edgesToFields", "(III)V"⟩
abbrev cX0_tryCircle : ByteArray := prog_1_method_16_code
def yX0_tryCircle : MethodName := ⟨RX0, "tryCircle", "(II)V"⟩
abbrev cX0_reach : ByteArray := prog_1_method_14_code
def yX0_reach : MethodName := ⟨RX0, "reach", "(I)I"⟩
abbrev cX0_leadersOf : ByteArray := prog_1_method_15_code
def yX0_leadersOf : MethodName := ⟨RX0, "leadersOf", "(I)I"⟩
abbrev cX0_join : ByteArray := prog_1_method_17_code
def yX0_join : MethodName := ⟨RX0, "join", "(II)V"⟩
abbrev cX0_bits : ByteArray := prog_1_method_6_code
def yX0_bits : MethodName := ⟨RX0, "bits", "(I)I"⟩
abbrev cX0_copy : ByteArray := prog_1_method_19_code
def yX0_copy : MethodName := ⟨RX0, "copy", "(II)I"⟩
abbrev cX0_load : ByteArray := prog_1_method_20_code
def yX0_load : MethodName := ⟨RX0, "load", "(III)I"⟩
abbrev cX0_badField : ByteArray := prog_1_method_4_code
def yX0_badField : MethodName := ⟨RX0, "badField", "(I)Z"⟩
abbrev cX0_store : ByteArray := prog_1_method_21_code
def yX0_store : MethodName := ⟨RX0, "store", "(III)I"⟩
abbrev cX0_once : ByteArray := prog_1_method_22_code
def yX0_once : MethodName := ⟨RX0, "once", "(IZ)I"⟩
abbrev cX0_region : ByteArray := prog_1_method_23_code
def yX0_region : MethodName := ⟨RX0, "region", "(III)I"⟩
abbrev cX0_access : ByteArray := prog_1_method_25_code
def yX0_access : MethodName := ⟨RX0, "access", "(IIIZ)I"⟩
abbrev cX0_badPlace : ByteArray := prog_1_method_24_code
def yX0_badPlace : MethodName := ⟨RX0, "badPlace", "(I)Z"⟩
abbrev cX0_pointsTo : ByteArray := prog_1_method_26_code
def yX0_pointsTo : MethodName := ⟨RX0, "pointsTo", "(I)I"⟩
abbrev cX0_holds : ByteArray := prog_1_method_27_code
def yX0_holds : MethodName := ⟨RX0, "holds", "(II)I"⟩
abbrev cX0_race : ByteArray := prog_1_method_31_code
def yX0_race : MethodName := ⟨RX0, "race", "(II)Z"⟩
abbrev cX0_conflict : ByteArray := prog_1_method_30_code
def yX0_conflict : MethodName := ⟨RX0, "conflict", "(II)Z"⟩
abbrev cX0_threadOf : ByteArray := prog_1_method_28_code
def yX0_threadOf : MethodName := ⟨RX0, "threadOf", "(I)I"⟩
abbrev cX0_heldAt : ByteArray := prog_1_method_29_code
def yX0_heldAt : MethodName := ⟨RX0, "heldAt", "(I)I"⟩
abbrev cX0_races : ByteArray := prog_1_method_32_code
def yX0_races : MethodName := ⟨RX0, "races", "()I"⟩
abbrev cX0_held : ByteArray := prog_1_method_33_code
def yX0_held : MethodName := ⟨RX0, "held", "(I)I"⟩
abbrev cX0_danger : ByteArray := prog_1_method_38_code
def yX0_danger : MethodName := ⟨RX0, "danger", "()I"⟩
abbrev cX0_makeSteps : ByteArray := prog_1_method_34_code
def yX0_makeSteps : MethodName := ⟨RX0, "makeSteps", "()V"⟩
abbrev cX0_addSteps : ByteArray := prog_1_method_35_code
def yX0_addSteps : MethodName := ⟨RX0, "addSteps", "(III)V"⟩
abbrev cX0_walk : ByteArray := prog_1_method_37_code
def yX0_walk : MethodName := ⟨RX0, "walk", "(IZ)I"⟩
abbrev cX0_stepFrom : ByteArray := prog_1_method_36_code
def yX0_stepFrom : MethodName := ⟨RX0, "stepFrom", "(IIZ)Z"⟩
abbrev cX0_twoThreads : ByteArray := prog_1_method_39_code
def yX0_twoThreads : MethodName := ⟨RX0, "twoThreads", "(I)Z"⟩
theorem q34 : (Jvm.Cond.initialized "RaceFinder") ∈ lw_all := lw_g (lw_at lw_m1 1 rfl) rfl
theorem q37 : (Jvm.Cond.instantiable "RaceFinder" (33 : Nat)) ∈ lw_all := lw_g (lw_at lw_m1 4 rfl) rfl
theorem q39 : (Jvm.Cond.instanceMethod ({ cls := "RaceFinder", name := "<init>", desc := "()V" } : Jvm.MethodName)) ∈ lw_all := lw_g (lw_at lw_m1 6 rfl) rfl
theorem q40 : (Jvm.Cond.code ({ cls := "RaceFinder", name := "<init>", desc := "()V" } : Jvm.MethodName) prog_1_method_1_code (2 : Nat) (Option.none : Option Jvm.ClassFile.FieldType)) ∈ lw_all := lw_g (lw_at lw_m1 7 rfl) rfl
theorem q41 : (Jvm.Cond.methodLink "RaceFinder" (1 : Nat) ({ cls := "java/lang/Object", name := "<init>", desc := "()V" } : Jvm.MethodName)) ∈ lw_all := lw_g (lw_at lw_m1 8 rfl) rfl
theorem q44 : (Jvm.Cond.fieldLink "RaceFinder" (7 : Nat) "RaceFinder" "leader" "[I") ∈ lw_all := lw_g (lw_at lw_m1 11 rfl) rfl
theorem q45 : (Jvm.Cond.fieldLink "RaceFinder" (13 : Nat) "RaceFinder" "sites" "[I") ∈ lw_all := lw_g (lw_at lw_m1 12 rfl) rfl
theorem q46 : (Jvm.Cond.fieldLink "RaceFinder" (16 : Nat) "RaceFinder" "fresh" "[I") ∈ lw_all := lw_g (lw_at lw_m1 13 rfl) rfl
theorem q47 : (Jvm.Cond.fieldLink "RaceFinder" (19 : Nat) "RaceFinder" "goesTo" "[I") ∈ lw_all := lw_g (lw_at lw_m1 14 rfl) rfl
theorem q48 : (Jvm.Cond.fieldLink "RaceFinder" (22 : Nat) "RaceFinder" "queued" "[Z") ∈ lw_all := lw_g (lw_at lw_m1 15 rfl) rfl
theorem q49 : (Jvm.Cond.fieldLink "RaceFinder" (26 : Nat) "RaceFinder" "queue" "[I") ∈ lw_all := lw_g (lw_at lw_m1 16 rfl) rfl
theorem q50 : (Jvm.Cond.fieldLink "RaceFinder" (95 : Nat) "RaceFinder" "head" "I") ∈ lw_all := lw_g (lw_at lw_m1 17 rfl) rfl
theorem q51 : (Jvm.Cond.fieldLink "RaceFinder" (87 : Nat) "RaceFinder" "tail" "I") ∈ lw_all := lw_g (lw_at lw_m1 18 rfl) rfl
theorem q52 : (Jvm.Cond.fieldLink "RaceFinder" (101 : Nat) "RaceFinder" "loads" "I") ∈ lw_all := lw_g (lw_at lw_m1 19 rfl) rfl
theorem q53 : (Jvm.Cond.fieldLink "RaceFinder" (29 : Nat) "RaceFinder" "loadTo" "[I") ∈ lw_all := lw_g (lw_at lw_m1 20 rfl) rfl
theorem q54 : (Jvm.Cond.fieldLink "RaceFinder" (32 : Nat) "RaceFinder" "loadFrom" "[I") ∈ lw_all := lw_g (lw_at lw_m1 21 rfl) rfl
theorem q55 : (Jvm.Cond.fieldLink "RaceFinder" (35 : Nat) "RaceFinder" "loadField" "[I") ∈ lw_all := lw_g (lw_at lw_m1 22 rfl) rfl
theorem q56 : (Jvm.Cond.fieldLink "RaceFinder" (108 : Nat) "RaceFinder" "stores" "I") ∈ lw_all := lw_g (lw_at lw_m1 23 rfl) rfl
theorem q57 : (Jvm.Cond.fieldLink "RaceFinder" (38 : Nat) "RaceFinder" "storeTo" "[I") ∈ lw_all := lw_g (lw_at lw_m1 24 rfl) rfl
theorem q58 : (Jvm.Cond.fieldLink "RaceFinder" (41 : Nat) "RaceFinder" "storeField" "[I") ∈ lw_all := lw_g (lw_at lw_m1 25 rfl) rfl
theorem q59 : (Jvm.Cond.fieldLink "RaceFinder" (44 : Nat) "RaceFinder" "storeFrom" "[I") ∈ lw_all := lw_g (lw_at lw_m1 26 rfl) rfl
theorem q60 : (Jvm.Cond.fieldLink "RaceFinder" (150 : Nat) "RaceFinder" "onceSet" "I") ∈ lw_all := lw_g (lw_at lw_m1 27 rfl) rfl
theorem q61 : (Jvm.Cond.fieldLink "RaceFinder" (153 : Nat) "RaceFinder" "regions" "I") ∈ lw_all := lw_g (lw_at lw_m1 28 rfl) rfl
theorem q62 : (Jvm.Cond.fieldLink "RaceFinder" (47 : Nat) "RaceFinder" "regionThread" "[I") ∈ lw_all := lw_g (lw_at lw_m1 29 rfl) rfl
theorem q63 : (Jvm.Cond.fieldLink "RaceFinder" (50 : Nat) "RaceFinder" "regionLock" "[I") ∈ lw_all := lw_g (lw_at lw_m1 30 rfl) rfl
theorem q64 : (Jvm.Cond.fieldLink "RaceFinder" (53 : Nat) "RaceFinder" "regionAround" "[I") ∈ lw_all := lw_g (lw_at lw_m1 31 rfl) rfl
theorem q65 : (Jvm.Cond.fieldLink "RaceFinder" (159 : Nat) "RaceFinder" "accesses" "I") ∈ lw_all := lw_g (lw_at lw_m1 32 rfl) rfl
theorem q66 : (Jvm.Cond.fieldLink "RaceFinder" (56 : Nat) "RaceFinder" "accessPlace" "[I") ∈ lw_all := lw_g (lw_at lw_m1 33 rfl) rfl
theorem q67 : (Jvm.Cond.fieldLink "RaceFinder" (59 : Nat) "RaceFinder" "accessVar" "[I") ∈ lw_all := lw_g (lw_at lw_m1 34 rfl) rfl
theorem q68 : (Jvm.Cond.fieldLink "RaceFinder" (62 : Nat) "RaceFinder" "accessField" "[I") ∈ lw_all := lw_g (lw_at lw_m1 35 rfl) rfl
theorem q69 : (Jvm.Cond.fieldLink "RaceFinder" (65 : Nat) "RaceFinder" "accessWrites" "[Z") ∈ lw_all := lw_g (lw_at lw_m1 36 rfl) rfl
theorem q70 : (Jvm.Cond.fieldLink "RaceFinder" (68 : Nat) "RaceFinder" "steps" "[I") ∈ lw_all := lw_g (lw_at lw_m1 37 rfl) rfl
theorem q71 : (Jvm.Cond.fieldLink "RaceFinder" (175 : Nat) "RaceFinder" "walked" "I") ∈ lw_all := lw_g (lw_at lw_m1 38 rfl) rfl
theorem q72 : (Jvm.Cond.fieldLink "RaceFinder" (71 : Nat) "RaceFinder" "finished" "[I") ∈ lw_all := lw_g (lw_at lw_m1 39 rfl) rfl
theorem q73 : (Jvm.Cond.fieldLink "RaceFinder" (178 : Nat) "RaceFinder" "finishedCount" "I") ∈ lw_all := lw_g (lw_at lw_m1 40 rfl) rfl
theorem q74 : (Jvm.Cond.fieldLink "RaceFinder" (74 : Nat) "RaceFinder" "leftOrder" "[I") ∈ lw_all := lw_g (lw_at lw_m1 41 rfl) rfl
theorem q75 : (Jvm.Cond.fieldLink "RaceFinder" (77 : Nat) "RaceFinder" "stack" "[I") ∈ lw_all := lw_g (lw_at lw_m1 42 rfl) rfl
theorem q76 : (Jvm.Cond.fieldLink "RaceFinder" (80 : Nat) "RaceFinder" "nextSite" "[I") ∈ lw_all := lw_g (lw_at lw_m1 43 rfl) rfl
theorem q77 : (Jvm.Cond.laysFinal "RaceFinder" "RaceFinder" "leader" "[I") ∈ lw_all := lw_g (lw_at lw_m1 44 rfl) rfl
theorem q78 : (Jvm.Cond.soleField "RaceFinder" "leader") ∈ lw_all := lw_g (lw_at lw_m1 45 rfl) rfl
theorem q79 : (Jvm.Cond.laysFinal "RaceFinder" "RaceFinder" "sites" "[I") ∈ lw_all := lw_g (lw_at lw_m1 46 rfl) rfl
theorem q80 : (Jvm.Cond.soleField "RaceFinder" "sites") ∈ lw_all := lw_g (lw_at lw_m1 47 rfl) rfl
theorem q81 : (Jvm.Cond.laysFinal "RaceFinder" "RaceFinder" "fresh" "[I") ∈ lw_all := lw_g (lw_at lw_m1 48 rfl) rfl
theorem q82 : (Jvm.Cond.soleField "RaceFinder" "fresh") ∈ lw_all := lw_g (lw_at lw_m1 49 rfl) rfl
theorem q83 : (Jvm.Cond.laysFinal "RaceFinder" "RaceFinder" "goesTo" "[I") ∈ lw_all := lw_g (lw_at lw_m1 50 rfl) rfl
theorem q84 : (Jvm.Cond.soleField "RaceFinder" "goesTo") ∈ lw_all := lw_g (lw_at lw_m1 51 rfl) rfl
theorem q85 : (Jvm.Cond.laysFinal "RaceFinder" "RaceFinder" "queued" "[Z") ∈ lw_all := lw_g (lw_at lw_m1 52 rfl) rfl
theorem q86 : (Jvm.Cond.soleField "RaceFinder" "queued") ∈ lw_all := lw_g (lw_at lw_m1 53 rfl) rfl
theorem q87 : (Jvm.Cond.laysFinal "RaceFinder" "RaceFinder" "queue" "[I") ∈ lw_all := lw_g (lw_at lw_m1 54 rfl) rfl
theorem q88 : (Jvm.Cond.soleField "RaceFinder" "queue") ∈ lw_all := lw_g (lw_at lw_m1 55 rfl) rfl
theorem q89 : (Jvm.Cond.lays "RaceFinder" "RaceFinder" "head" "I") ∈ lw_all := lw_g (lw_at lw_m1 56 rfl) rfl
theorem q90 : (Jvm.Cond.soleField "RaceFinder" "head") ∈ lw_all := lw_g (lw_at lw_m1 57 rfl) rfl
theorem q91 : (Jvm.Cond.lays "RaceFinder" "RaceFinder" "tail" "I") ∈ lw_all := lw_g (lw_at lw_m1 58 rfl) rfl
theorem q92 : (Jvm.Cond.soleField "RaceFinder" "tail") ∈ lw_all := lw_g (lw_at lw_m1 59 rfl) rfl
theorem q93 : (Jvm.Cond.lays "RaceFinder" "RaceFinder" "loads" "I") ∈ lw_all := lw_g (lw_at lw_m1 60 rfl) rfl
theorem q94 : (Jvm.Cond.soleField "RaceFinder" "loads") ∈ lw_all := lw_g (lw_at lw_m1 61 rfl) rfl
theorem q95 : (Jvm.Cond.laysFinal "RaceFinder" "RaceFinder" "loadTo" "[I") ∈ lw_all := lw_g (lw_at lw_m1 62 rfl) rfl
theorem q96 : (Jvm.Cond.soleField "RaceFinder" "loadTo") ∈ lw_all := lw_g (lw_at lw_m1 63 rfl) rfl
theorem q97 : (Jvm.Cond.laysFinal "RaceFinder" "RaceFinder" "loadFrom" "[I") ∈ lw_all := lw_g (lw_at lw_m1 64 rfl) rfl
theorem q98 : (Jvm.Cond.soleField "RaceFinder" "loadFrom") ∈ lw_all := lw_g (lw_at lw_m1 65 rfl) rfl
theorem q99 : (Jvm.Cond.laysFinal "RaceFinder" "RaceFinder" "loadField" "[I") ∈ lw_all := lw_g (lw_at lw_m1 66 rfl) rfl
theorem q100 : (Jvm.Cond.soleField "RaceFinder" "loadField") ∈ lw_all := lw_g (lw_at lw_m1 67 rfl) rfl
theorem q101 : (Jvm.Cond.lays "RaceFinder" "RaceFinder" "stores" "I") ∈ lw_all := lw_g (lw_at lw_m1 68 rfl) rfl
theorem q102 : (Jvm.Cond.soleField "RaceFinder" "stores") ∈ lw_all := lw_g (lw_at lw_m1 69 rfl) rfl
theorem q103 : (Jvm.Cond.laysFinal "RaceFinder" "RaceFinder" "storeTo" "[I") ∈ lw_all := lw_g (lw_at lw_m1 70 rfl) rfl
theorem q104 : (Jvm.Cond.soleField "RaceFinder" "storeTo") ∈ lw_all := lw_g (lw_at lw_m1 71 rfl) rfl
theorem q105 : (Jvm.Cond.laysFinal "RaceFinder" "RaceFinder" "storeField" "[I") ∈ lw_all := lw_g (lw_at lw_m1 72 rfl) rfl
theorem q106 : (Jvm.Cond.soleField "RaceFinder" "storeField") ∈ lw_all := lw_g (lw_at lw_m1 73 rfl) rfl
theorem q107 : (Jvm.Cond.laysFinal "RaceFinder" "RaceFinder" "storeFrom" "[I") ∈ lw_all := lw_g (lw_at lw_m1 74 rfl) rfl
theorem q108 : (Jvm.Cond.soleField "RaceFinder" "storeFrom") ∈ lw_all := lw_g (lw_at lw_m1 75 rfl) rfl
theorem q109 : (Jvm.Cond.lays "RaceFinder" "RaceFinder" "onceSet" "I") ∈ lw_all := lw_g (lw_at lw_m1 76 rfl) rfl
theorem q110 : (Jvm.Cond.soleField "RaceFinder" "onceSet") ∈ lw_all := lw_g (lw_at lw_m1 77 rfl) rfl
theorem q111 : (Jvm.Cond.lays "RaceFinder" "RaceFinder" "regions" "I") ∈ lw_all := lw_g (lw_at lw_m1 78 rfl) rfl
theorem q112 : (Jvm.Cond.soleField "RaceFinder" "regions") ∈ lw_all := lw_g (lw_at lw_m1 79 rfl) rfl
theorem q113 : (Jvm.Cond.laysFinal "RaceFinder" "RaceFinder" "regionThread" "[I") ∈ lw_all := lw_g (lw_at lw_m1 80 rfl) rfl
theorem q114 : (Jvm.Cond.soleField "RaceFinder" "regionThread") ∈ lw_all := lw_g (lw_at lw_m1 81 rfl) rfl
theorem q115 : (Jvm.Cond.laysFinal "RaceFinder" "RaceFinder" "regionLock" "[I") ∈ lw_all := lw_g (lw_at lw_m1 82 rfl) rfl
theorem q116 : (Jvm.Cond.soleField "RaceFinder" "regionLock") ∈ lw_all := lw_g (lw_at lw_m1 83 rfl) rfl
theorem q117 : (Jvm.Cond.laysFinal "RaceFinder" "RaceFinder" "regionAround" "[I") ∈ lw_all := lw_g (lw_at lw_m1 84 rfl) rfl
theorem q118 : (Jvm.Cond.soleField "RaceFinder" "regionAround") ∈ lw_all := lw_g (lw_at lw_m1 85 rfl) rfl
theorem q119 : (Jvm.Cond.lays "RaceFinder" "RaceFinder" "accesses" "I") ∈ lw_all := lw_g (lw_at lw_m1 86 rfl) rfl
theorem q120 : (Jvm.Cond.soleField "RaceFinder" "accesses") ∈ lw_all := lw_g (lw_at lw_m1 87 rfl) rfl
theorem q121 : (Jvm.Cond.laysFinal "RaceFinder" "RaceFinder" "accessPlace" "[I") ∈ lw_all := lw_g (lw_at lw_m1 88 rfl) rfl
theorem q122 : (Jvm.Cond.soleField "RaceFinder" "accessPlace") ∈ lw_all := lw_g (lw_at lw_m1 89 rfl) rfl
theorem q123 : (Jvm.Cond.laysFinal "RaceFinder" "RaceFinder" "accessVar" "[I") ∈ lw_all := lw_g (lw_at lw_m1 90 rfl) rfl
theorem q124 : (Jvm.Cond.soleField "RaceFinder" "accessVar") ∈ lw_all := lw_g (lw_at lw_m1 91 rfl) rfl
theorem q125 : (Jvm.Cond.laysFinal "RaceFinder" "RaceFinder" "accessField" "[I") ∈ lw_all := lw_g (lw_at lw_m1 92 rfl) rfl
theorem q126 : (Jvm.Cond.soleField "RaceFinder" "accessField") ∈ lw_all := lw_g (lw_at lw_m1 93 rfl) rfl
theorem q127 : (Jvm.Cond.laysFinal "RaceFinder" "RaceFinder" "accessWrites" "[Z") ∈ lw_all := lw_g (lw_at lw_m1 94 rfl) rfl
theorem q128 : (Jvm.Cond.soleField "RaceFinder" "accessWrites") ∈ lw_all := lw_g (lw_at lw_m1 95 rfl) rfl
theorem q129 : (Jvm.Cond.laysFinal "RaceFinder" "RaceFinder" "steps" "[I") ∈ lw_all := lw_g (lw_at lw_m1 96 rfl) rfl
theorem q130 : (Jvm.Cond.soleField "RaceFinder" "steps") ∈ lw_all := lw_g (lw_at lw_m1 97 rfl) rfl
theorem q131 : (Jvm.Cond.lays "RaceFinder" "RaceFinder" "walked" "I") ∈ lw_all := lw_g (lw_at lw_m1 98 rfl) rfl
theorem q132 : (Jvm.Cond.soleField "RaceFinder" "walked") ∈ lw_all := lw_g (lw_at lw_m1 99 rfl) rfl
theorem q133 : (Jvm.Cond.laysFinal "RaceFinder" "RaceFinder" "finished" "[I") ∈ lw_all := lw_g (lw_at lw_m1 100 rfl) rfl
theorem q134 : (Jvm.Cond.soleField "RaceFinder" "finished") ∈ lw_all := lw_g (lw_at lw_m1 101 rfl) rfl
theorem q135 : (Jvm.Cond.lays "RaceFinder" "RaceFinder" "finishedCount" "I") ∈ lw_all := lw_g (lw_at lw_m1 102 rfl) rfl
theorem q136 : (Jvm.Cond.soleField "RaceFinder" "finishedCount") ∈ lw_all := lw_g (lw_at lw_m1 103 rfl) rfl
theorem q137 : (Jvm.Cond.laysFinal "RaceFinder" "RaceFinder" "leftOrder" "[I") ∈ lw_all := lw_g (lw_at lw_m1 104 rfl) rfl
theorem q138 : (Jvm.Cond.soleField "RaceFinder" "leftOrder") ∈ lw_all := lw_g (lw_at lw_m1 105 rfl) rfl
theorem q139 : (Jvm.Cond.laysFinal "RaceFinder" "RaceFinder" "stack" "[I") ∈ lw_all := lw_g (lw_at lw_m1 106 rfl) rfl
theorem q140 : (Jvm.Cond.soleField "RaceFinder" "stack") ∈ lw_all := lw_g (lw_at lw_m1 107 rfl) rfl
theorem q141 : (Jvm.Cond.laysFinal "RaceFinder" "RaceFinder" "nextSite" "[I") ∈ lw_all := lw_g (lw_at lw_m1 108 rfl) rfl
theorem q142 : (Jvm.Cond.soleField "RaceFinder" "nextSite") ∈ lw_all := lw_g (lw_at lw_m1 109 rfl) rfl
theorem q143 : (Jvm.Cond.superclass "RaceFinder" "java/lang/Object") ∈ lw_all := lw_g (lw_at lw_m1 110 rfl) rfl
theorem q147 : (Jvm.Cond.instanceMethod ({ cls := "RaceFinder", name := "alloc", desc := "(II)I" } : Jvm.MethodName)) ∈ lw_all := lw_g (lw_at lw_m1 114 rfl) rfl
theorem q148 : (Jvm.Cond.selects "RaceFinder" ({ cls := "RaceFinder", name := "alloc", desc := "(II)I" } : Jvm.MethodName) ({ cls := "RaceFinder", name := "alloc", desc := "(II)I" } : Jvm.MethodName)) ∈ lw_all := lw_g (lw_at lw_m1 115 rfl) rfl
theorem q149 : (Jvm.Cond.code ({ cls := "RaceFinder", name := "alloc", desc := "(II)I" } : Jvm.MethodName) prog_1_method_18_code (3 : Nat) (Option.some Jvm.ClassFile.FieldType.int)) ∈ lw_all := lw_g (lw_at lw_m1 116 rfl) rfl
theorem q150 : (Jvm.Cond.methodLink "RaceFinder" (134 : Nat) ({ cls := "RaceFinder", name := "badVariable", desc := "(I)Z" } : Jvm.MethodName)) ∈ lw_all := lw_g (lw_at lw_m1 117 rfl) rfl
theorem q151 : (Jvm.Cond.static ({ cls := "RaceFinder", name := "badVariable", desc := "(I)Z" } : Jvm.MethodName)) ∈ lw_all := lw_g (lw_at lw_m1 118 rfl) rfl
theorem q152 : (Jvm.Cond.code ({ cls := "RaceFinder", name := "badVariable", desc := "(I)Z" } : Jvm.MethodName) prog_1_method_2_code (1 : Nat) (Option.some Jvm.ClassFile.FieldType.boolean)) ∈ lw_all := lw_g (lw_at lw_m1 119 rfl) rfl
theorem q153 : (Jvm.Cond.methodLink "RaceFinder" (138 : Nat) ({ cls := "RaceFinder", name := "badSite", desc := "(I)Z" } : Jvm.MethodName)) ∈ lw_all := lw_g (lw_at lw_m1 120 rfl) rfl
theorem q154 : (Jvm.Cond.static ({ cls := "RaceFinder", name := "badSite", desc := "(I)Z" } : Jvm.MethodName)) ∈ lw_all := lw_g (lw_at lw_m1 121 rfl) rfl
theorem q155 : (Jvm.Cond.code ({ cls := "RaceFinder", name := "badSite", desc := "(I)Z" } : Jvm.MethodName) prog_1_method_3_code (1 : Nat) (Option.some Jvm.ClassFile.FieldType.boolean)) ∈ lw_all := lw_g (lw_at lw_m1 122 rfl) rfl
theorem q156 : (Jvm.Cond.methodLink "RaceFinder" (91 : Nat) ({ cls := "RaceFinder", name := "addSites", desc := "(II)V" } : Jvm.MethodName)) ∈ lw_all := lw_g (lw_at lw_m1 123 rfl) rfl
theorem q157 : (Jvm.Cond.privateMethod ({ cls := "RaceFinder", name := "addSites", desc := "(II)V" } : Jvm.MethodName)) ∈ lw_tbl := lw_at lw_m1 124 rfl
theorem q158 : (Jvm.Cond.instanceMethod ({ cls := "RaceFinder", name := "addSites", desc := "(II)V" } : Jvm.MethodName)) ∈ lw_all := lw_g (lw_at lw_m1 125 rfl) rfl
theorem q159 : (Jvm.Cond.code ({ cls := "RaceFinder", name := "addSites", desc := "(II)V" } : Jvm.MethodName) prog_1_method_7_code (5 : Nat) (Option.none : Option Jvm.ClassFile.FieldType)) ∈ lw_all := lw_g (lw_at lw_m1 126 rfl) rfl
theorem q160 : (Jvm.Cond.methodLink "RaceFinder" (83 : Nat) ({ cls := "RaceFinder", name := "enqueue", desc := "(I)V" } : Jvm.MethodName)) ∈ lw_all := lw_g (lw_at lw_m1 127 rfl) rfl
theorem q161 : (Jvm.Cond.privateMethod ({ cls := "RaceFinder", name := "enqueue", desc := "(I)V" } : Jvm.MethodName)) ∈ lw_tbl := lw_at lw_m1 128 rfl
theorem q162 : (Jvm.Cond.instanceMethod ({ cls := "RaceFinder", name := "enqueue", desc := "(I)V" } : Jvm.MethodName)) ∈ lw_all := lw_g (lw_at lw_m1 129 rfl) rfl
theorem q163 : (Jvm.Cond.code ({ cls := "RaceFinder", name := "enqueue", desc := "(I)V" } : Jvm.MethodName) prog_1_method_8_code (2 : Nat) (Option.none : Option Jvm.ClassFile.FieldType)) ∈ lw_all := lw_g (lw_at lw_m1 130 rfl) rfl
theorem q164 : (Jvm.Cond.methodLink "RaceFinder" (141 : Nat) ({ cls := "RaceFinder", name := "solve", desc := "()V" } : Jvm.MethodName)) ∈ lw_all := lw_g (lw_at lw_m1 131 rfl) rfl
theorem q165 : (Jvm.Cond.privateMethod ({ cls := "RaceFinder", name := "solve", desc := "()V" } : Jvm.MethodName)) ∈ lw_tbl := lw_at lw_m1 132 rfl
theorem q166 : (Jvm.Cond.instanceMethod ({ cls := "RaceFinder", name := "solve", desc := "()V" } : Jvm.MethodName)) ∈ lw_all := lw_g (lw_at lw_m1 133 rfl) rfl
theorem q167 : (Jvm.Cond.code ({ cls := "RaceFinder", name := "solve", desc := "()V" } : Jvm.MethodName) prog_1_method_10_code (3 : Nat) (Option.none : Option Jvm.ClassFile.FieldType)) ∈ lw_all := lw_g (lw_at lw_m1 134 rfl) rfl
theorem q168 : (Jvm.Cond.methodLink "RaceFinder" (98 : Nat) ({ cls := "RaceFinder", name := "pass", desc := "(I)V" } : Jvm.MethodName)) ∈ lw_all := lw_g (lw_at lw_m1 135 rfl) rfl
theorem q169 : (Jvm.Cond.privateMethod ({ cls := "RaceFinder", name := "pass", desc := "(I)V" } : Jvm.MethodName)) ∈ lw_tbl := lw_at lw_m1 136 rfl
theorem q170 : (Jvm.Cond.instanceMethod ({ cls := "RaceFinder", name := "pass", desc := "(I)V" } : Jvm.MethodName)) ∈ lw_all := lw_g (lw_at lw_m1 137 rfl) rfl
theorem q171 : (Jvm.Cond.code ({ cls := "RaceFinder", name := "pass", desc := "(I)V" } : Jvm.MethodName) prog_1_method_11_code (6 : Nat) (Option.none : Option Jvm.ClassFile.FieldType)) ∈ lw_all := lw_g (lw_at lw_m1 138 rfl) rfl
theorem q172 : (Jvm.Cond.methodLink "RaceFinder" (104 : Nat) ({ cls := "RaceFinder", name := "edgesFromFields", desc := "(III)V" } : Jvm.MethodName)) ∈ lw_all := lw_g (lw_at lw_m1 139 rfl) rfl
theorem q173 : (Jvm.Cond.privateMethod ({ cls := "RaceFinder", name := "edgesFromFields", desc := "(III)V" } : Jvm.MethodName)) ∈ lw_tbl := lw_at lw_m1 140 rfl
theorem q174 : (Jvm.Cond.instanceMethod ({ cls := "RaceFinder", name := "edgesFromFields", desc := "(III)V" } : Jvm.MethodName)) ∈ lw_all := lw_g (lw_at lw_m1 141 rfl) rfl
theorem q175 : (Jvm.Cond.code ({ cls := "RaceFinder", name := "edgesFromFields", desc := "(III)V" } : Jvm.MethodName) prog_1_method_12_code (5 : Nat) (Option.none : Option Jvm.ClassFile.FieldType)) ∈ lw_all := lw_g (lw_at lw_m1 142 rfl) rfl
theorem q176 : (Jvm.Cond.methodLink "RaceFinder" (117 : Nat) ({ cls := "RaceFinder", name := "fieldNode", desc := "(II)I" } : Jvm.MethodName)) ∈ lw_all := lw_g (lw_at lw_m1 143 rfl) rfl
theorem q177 : (Jvm.Cond.static ({ cls := "RaceFinder", name := "fieldNode", desc := "(II)I" } : Jvm.MethodName)) ∈ lw_all := lw_g (lw_at lw_m1 144 rfl) rfl
theorem q178 : (Jvm.Cond.code ({ cls := "RaceFinder", name := "fieldNode", desc := "(II)I" } : Jvm.MethodName) prog_1_method_5_code (2 : Nat) (Option.some Jvm.ClassFile.FieldType.int)) ∈ lw_all := lw_g (lw_at lw_m1 145 rfl) rfl
theorem q179 : (Jvm.Cond.methodLink "RaceFinder" (121 : Nat) ({ cls := "RaceFinder", name := "addEdge", desc := "(II)V" } : Jvm.MethodName)) ∈ lw_all := lw_g (lw_at lw_m1 146 rfl) rfl
theorem q180 : (Jvm.Cond.privateMethod ({ cls := "RaceFinder", name := "addEdge", desc := "(II)V" } : Jvm.MethodName)) ∈ lw_tbl := lw_at lw_m1 147 rfl
theorem q181 : (Jvm.Cond.instanceMethod ({ cls := "RaceFinder", name := "addEdge", desc := "(II)V" } : Jvm.MethodName)) ∈ lw_all := lw_g (lw_at lw_m1 148 rfl) rfl
theorem q182 : (Jvm.Cond.code ({ cls := "RaceFinder", name := "addEdge", desc := "(II)V" } : Jvm.MethodName) prog_1_method_9_code (5 : Nat) (Option.none : Option Jvm.ClassFile.FieldType)) ∈ lw_all := lw_g (lw_at lw_m1 149 rfl) rfl
theorem q183 : (Jvm.Cond.methodLink "RaceFinder" (111 : Nat) ({ cls := "RaceFinder", name := "edgesToFields", desc := "(III)V" } : Jvm.MethodName)) ∈ lw_all := lw_g (lw_at lw_m1 150 rfl) rfl
theorem q184 : (Jvm.Cond.privateMethod ({ cls := "RaceFinder", name := "edgesToFields", desc := "(III)V" } : Jvm.MethodName)) ∈ lw_tbl := lw_at lw_m1 151 rfl
theorem q185 : (Jvm.Cond.instanceMethod ({ cls := "RaceFinder", name := "edgesToFields", desc := "(III)V" } : Jvm.MethodName)) ∈ lw_all := lw_g (lw_at lw_m1 152 rfl) rfl
theorem q186 : (Jvm.Cond.code ({ cls := "RaceFinder", name := "edgesToFields", desc := "(III)V" } : Jvm.MethodName) prog_1_method_13_code (5 : Nat) (Option.none : Option Jvm.ClassFile.FieldType)) ∈ lw_all := lw_g (lw_at lw_m1 153 rfl) rfl
theorem q187 : (Jvm.Cond.methodLink "RaceFinder" (114 : Nat) ({ cls := "RaceFinder", name := "tryCircle", desc := "(II)V" } : Jvm.MethodName)) ∈ lw_all := lw_g (lw_at lw_m1 154 rfl) rfl
theorem q188 : (Jvm.Cond.privateMethod ({ cls := "RaceFinder", name := "tryCircle", desc := "(II)V" } : Jvm.MethodName)) ∈ lw_tbl := lw_at lw_m1 155 rfl
theorem q189 : (Jvm.Cond.instanceMethod ({ cls := "RaceFinder", name := "tryCircle", desc := "(II)V" } : Jvm.MethodName)) ∈ lw_all := lw_g (lw_at lw_m1 156 rfl) rfl
theorem q190 : (Jvm.Cond.code ({ cls := "RaceFinder", name := "tryCircle", desc := "(II)V" } : Jvm.MethodName) prog_1_method_16_code (6 : Nat) (Option.none : Option Jvm.ClassFile.FieldType)) ∈ lw_all := lw_g (lw_at lw_m1 157 rfl) rfl
theorem q191 : (Jvm.Cond.methodLink "RaceFinder" (128 : Nat) ({ cls := "RaceFinder", name := "reach", desc := "(I)I" } : Jvm.MethodName)) ∈ lw_all := lw_g (lw_at lw_m1 158 rfl) rfl
theorem q192 : (Jvm.Cond.privateMethod ({ cls := "RaceFinder", name := "reach", desc := "(I)I" } : Jvm.MethodName)) ∈ lw_tbl := lw_at lw_m1 159 rfl
theorem q193 : (Jvm.Cond.instanceMethod ({ cls := "RaceFinder", name := "reach", desc := "(I)I" } : Jvm.MethodName)) ∈ lw_all := lw_g (lw_at lw_m1 160 rfl) rfl
theorem q194 : (Jvm.Cond.code ({ cls := "RaceFinder", name := "reach", desc := "(I)I" } : Jvm.MethodName) prog_1_method_14_code (6 : Nat) (Option.some Jvm.ClassFile.FieldType.int)) ∈ lw_all := lw_g (lw_at lw_m1 161 rfl) rfl
theorem q195 : (Jvm.Cond.methodLink "RaceFinder" (124 : Nat) ({ cls := "RaceFinder", name := "leadersOf", desc := "(I)I" } : Jvm.MethodName)) ∈ lw_all := lw_g (lw_at lw_m1 162 rfl) rfl
theorem q196 : (Jvm.Cond.privateMethod ({ cls := "RaceFinder", name := "leadersOf", desc := "(I)I" } : Jvm.MethodName)) ∈ lw_tbl := lw_at lw_m1 163 rfl
theorem q197 : (Jvm.Cond.instanceMethod ({ cls := "RaceFinder", name := "leadersOf", desc := "(I)I" } : Jvm.MethodName)) ∈ lw_all := lw_g (lw_at lw_m1 164 rfl) rfl
theorem q198 : (Jvm.Cond.code ({ cls := "RaceFinder", name := "leadersOf", desc := "(I)I" } : Jvm.MethodName) prog_1_method_15_code (4 : Nat) (Option.some Jvm.ClassFile.FieldType.int)) ∈ lw_all := lw_g (lw_at lw_m1 165 rfl) rfl
theorem q199 : (Jvm.Cond.methodLink "RaceFinder" (131 : Nat) ({ cls := "RaceFinder", name := "join", desc := "(II)V" } : Jvm.MethodName)) ∈ lw_all := lw_g (lw_at lw_m1 166 rfl) rfl
theorem q200 : (Jvm.Cond.privateMethod ({ cls := "RaceFinder", name := "join", desc := "(II)V" } : Jvm.MethodName)) ∈ lw_tbl := lw_at lw_m1 167 rfl
theorem q201 : (Jvm.Cond.instanceMethod ({ cls := "RaceFinder", name := "join", desc := "(II)V" } : Jvm.MethodName)) ∈ lw_all := lw_g (lw_at lw_m1 168 rfl) rfl
theorem q202 : (Jvm.Cond.code ({ cls := "RaceFinder", name := "join", desc := "(II)V" } : Jvm.MethodName) prog_1_method_17_code (4 : Nat) (Option.none : Option Jvm.ClassFile.FieldType)) ∈ lw_all := lw_g (lw_at lw_m1 169 rfl) rfl
theorem q203 : (Jvm.Cond.methodLink "RaceFinder" (144 : Nat) ({ cls := "RaceFinder", name := "bits", desc := "(I)I" } : Jvm.MethodName)) ∈ lw_all := lw_g (lw_at lw_m1 170 rfl) rfl
theorem q204 : (Jvm.Cond.static ({ cls := "RaceFinder", name := "bits", desc := "(I)I" } : Jvm.MethodName)) ∈ lw_all := lw_g (lw_at lw_m1 171 rfl) rfl
theorem q205 : (Jvm.Cond.code ({ cls := "RaceFinder", name := "bits", desc := "(I)I" } : Jvm.MethodName) prog_1_method_6_code (3 : Nat) (Option.some Jvm.ClassFile.FieldType.int)) ∈ lw_all := lw_g (lw_at lw_m1 172 rfl) rfl
theorem q207 : (Jvm.Cond.instanceMethod ({ cls := "RaceFinder", name := "copy", desc := "(II)I" } : Jvm.MethodName)) ∈ lw_all := lw_g (lw_at lw_m1 174 rfl) rfl
theorem q208 : (Jvm.Cond.selects "RaceFinder" ({ cls := "RaceFinder", name := "copy", desc := "(II)I" } : Jvm.MethodName) ({ cls := "RaceFinder", name := "copy", desc := "(II)I" } : Jvm.MethodName)) ∈ lw_all := lw_g (lw_at lw_m1 175 rfl) rfl
theorem q209 : (Jvm.Cond.code ({ cls := "RaceFinder", name := "copy", desc := "(II)I" } : Jvm.MethodName) prog_1_method_19_code (3 : Nat) (Option.some Jvm.ClassFile.FieldType.int)) ∈ lw_all := lw_g (lw_at lw_m1 176 rfl) rfl
theorem q211 : (Jvm.Cond.instanceMethod ({ cls := "RaceFinder", name := "load", desc := "(III)I" } : Jvm.MethodName)) ∈ lw_all := lw_g (lw_at lw_m1 178 rfl) rfl
theorem q212 : (Jvm.Cond.selects "RaceFinder" ({ cls := "RaceFinder", name := "load", desc := "(III)I" } : Jvm.MethodName) ({ cls := "RaceFinder", name := "load", desc := "(III)I" } : Jvm.MethodName)) ∈ lw_all := lw_g (lw_at lw_m1 179 rfl) rfl
theorem q213 : (Jvm.Cond.code ({ cls := "RaceFinder", name := "load", desc := "(III)I" } : Jvm.MethodName) prog_1_method_20_code (4 : Nat) (Option.some Jvm.ClassFile.FieldType.int)) ∈ lw_all := lw_g (lw_at lw_m1 180 rfl) rfl
theorem q214 : (Jvm.Cond.methodLink "RaceFinder" (147 : Nat) ({ cls := "RaceFinder", name := "badField", desc := "(I)Z" } : Jvm.MethodName)) ∈ lw_all := lw_g (lw_at lw_m1 181 rfl) rfl
theorem q215 : (Jvm.Cond.static ({ cls := "RaceFinder", name := "badField", desc := "(I)Z" } : Jvm.MethodName)) ∈ lw_all := lw_g (lw_at lw_m1 182 rfl) rfl
theorem q216 : (Jvm.Cond.code ({ cls := "RaceFinder", name := "badField", desc := "(I)Z" } : Jvm.MethodName) prog_1_method_4_code (1 : Nat) (Option.some Jvm.ClassFile.FieldType.boolean)) ∈ lw_all := lw_g (lw_at lw_m1 183 rfl) rfl
theorem q218 : (Jvm.Cond.instanceMethod ({ cls := "RaceFinder", name := "store", desc := "(III)I" } : Jvm.MethodName)) ∈ lw_all := lw_g (lw_at lw_m1 185 rfl) rfl
theorem q219 : (Jvm.Cond.selects "RaceFinder" ({ cls := "RaceFinder", name := "store", desc := "(III)I" } : Jvm.MethodName) ({ cls := "RaceFinder", name := "store", desc := "(III)I" } : Jvm.MethodName)) ∈ lw_all := lw_g (lw_at lw_m1 186 rfl) rfl
theorem q220 : (Jvm.Cond.code ({ cls := "RaceFinder", name := "store", desc := "(III)I" } : Jvm.MethodName) prog_1_method_21_code (4 : Nat) (Option.some Jvm.ClassFile.FieldType.int)) ∈ lw_all := lw_g (lw_at lw_m1 187 rfl) rfl
theorem q222 : (Jvm.Cond.instanceMethod ({ cls := "RaceFinder", name := "once", desc := "(IZ)I" } : Jvm.MethodName)) ∈ lw_all := lw_g (lw_at lw_m1 189 rfl) rfl
theorem q223 : (Jvm.Cond.selects "RaceFinder" ({ cls := "RaceFinder", name := "once", desc := "(IZ)I" } : Jvm.MethodName) ({ cls := "RaceFinder", name := "once", desc := "(IZ)I" } : Jvm.MethodName)) ∈ lw_all := lw_g (lw_at lw_m1 190 rfl) rfl
theorem q224 : (Jvm.Cond.code ({ cls := "RaceFinder", name := "once", desc := "(IZ)I" } : Jvm.MethodName) prog_1_method_22_code (4 : Nat) (Option.some Jvm.ClassFile.FieldType.int)) ∈ lw_all := lw_g (lw_at lw_m1 191 rfl) rfl
theorem q226 : (Jvm.Cond.instanceMethod ({ cls := "RaceFinder", name := "region", desc := "(III)I" } : Jvm.MethodName)) ∈ lw_all := lw_g (lw_at lw_m1 193 rfl) rfl
theorem q227 : (Jvm.Cond.selects "RaceFinder" ({ cls := "RaceFinder", name := "region", desc := "(III)I" } : Jvm.MethodName) ({ cls := "RaceFinder", name := "region", desc := "(III)I" } : Jvm.MethodName)) ∈ lw_all := lw_g (lw_at lw_m1 194 rfl) rfl
theorem q228 : (Jvm.Cond.code ({ cls := "RaceFinder", name := "region", desc := "(III)I" } : Jvm.MethodName) prog_1_method_23_code (5 : Nat) (Option.some Jvm.ClassFile.FieldType.int)) ∈ lw_all := lw_g (lw_at lw_m1 195 rfl) rfl
theorem q230 : (Jvm.Cond.instanceMethod ({ cls := "RaceFinder", name := "access", desc := "(IIIZ)I" } : Jvm.MethodName)) ∈ lw_all := lw_g (lw_at lw_m1 197 rfl) rfl
theorem q231 : (Jvm.Cond.selects "RaceFinder" ({ cls := "RaceFinder", name := "access", desc := "(IIIZ)I" } : Jvm.MethodName) ({ cls := "RaceFinder", name := "access", desc := "(IIIZ)I" } : Jvm.MethodName)) ∈ lw_all := lw_g (lw_at lw_m1 198 rfl) rfl
theorem q232 : (Jvm.Cond.code ({ cls := "RaceFinder", name := "access", desc := "(IIIZ)I" } : Jvm.MethodName) prog_1_method_25_code (6 : Nat) (Option.some Jvm.ClassFile.FieldType.int)) ∈ lw_all := lw_g (lw_at lw_m1 199 rfl) rfl
theorem q233 : (Jvm.Cond.methodLink "RaceFinder" (156 : Nat) ({ cls := "RaceFinder", name := "badPlace", desc := "(I)Z" } : Jvm.MethodName)) ∈ lw_all := lw_g (lw_at lw_m1 200 rfl) rfl
theorem q234 : (Jvm.Cond.privateMethod ({ cls := "RaceFinder", name := "badPlace", desc := "(I)Z" } : Jvm.MethodName)) ∈ lw_tbl := lw_at lw_m1 201 rfl
theorem q235 : (Jvm.Cond.instanceMethod ({ cls := "RaceFinder", name := "badPlace", desc := "(I)Z" } : Jvm.MethodName)) ∈ lw_all := lw_g (lw_at lw_m1 202 rfl) rfl
theorem q236 : (Jvm.Cond.code ({ cls := "RaceFinder", name := "badPlace", desc := "(I)Z" } : Jvm.MethodName) prog_1_method_24_code (2 : Nat) (Option.some Jvm.ClassFile.FieldType.boolean)) ∈ lw_all := lw_g (lw_at lw_m1 203 rfl) rfl
theorem q238 : (Jvm.Cond.instanceMethod ({ cls := "RaceFinder", name := "pointsTo", desc := "(I)I" } : Jvm.MethodName)) ∈ lw_all := lw_g (lw_at lw_m1 205 rfl) rfl
theorem q239 : (Jvm.Cond.selects "RaceFinder" ({ cls := "RaceFinder", name := "pointsTo", desc := "(I)I" } : Jvm.MethodName) ({ cls := "RaceFinder", name := "pointsTo", desc := "(I)I" } : Jvm.MethodName)) ∈ lw_all := lw_g (lw_at lw_m1 206 rfl) rfl
theorem q240 : (Jvm.Cond.code ({ cls := "RaceFinder", name := "pointsTo", desc := "(I)I" } : Jvm.MethodName) prog_1_method_26_code (2 : Nat) (Option.some Jvm.ClassFile.FieldType.int)) ∈ lw_all := lw_g (lw_at lw_m1 207 rfl) rfl
theorem q242 : (Jvm.Cond.instanceMethod ({ cls := "RaceFinder", name := "holds", desc := "(II)I" } : Jvm.MethodName)) ∈ lw_all := lw_g (lw_at lw_m1 209 rfl) rfl
theorem q243 : (Jvm.Cond.selects "RaceFinder" ({ cls := "RaceFinder", name := "holds", desc := "(II)I" } : Jvm.MethodName) ({ cls := "RaceFinder", name := "holds", desc := "(II)I" } : Jvm.MethodName)) ∈ lw_all := lw_g (lw_at lw_m1 210 rfl) rfl
theorem q244 : (Jvm.Cond.code ({ cls := "RaceFinder", name := "holds", desc := "(II)I" } : Jvm.MethodName) prog_1_method_27_code (3 : Nat) (Option.some Jvm.ClassFile.FieldType.int)) ∈ lw_all := lw_g (lw_at lw_m1 211 rfl) rfl
theorem q246 : (Jvm.Cond.instanceMethod ({ cls := "RaceFinder", name := "race", desc := "(II)Z" } : Jvm.MethodName)) ∈ lw_all := lw_g (lw_at lw_m1 213 rfl) rfl
theorem q247 : (Jvm.Cond.selects "RaceFinder" ({ cls := "RaceFinder", name := "race", desc := "(II)Z" } : Jvm.MethodName) ({ cls := "RaceFinder", name := "race", desc := "(II)Z" } : Jvm.MethodName)) ∈ lw_all := lw_g (lw_at lw_m1 214 rfl) rfl
theorem q248 : (Jvm.Cond.code ({ cls := "RaceFinder", name := "race", desc := "(II)Z" } : Jvm.MethodName) prog_1_method_31_code (3 : Nat) (Option.some Jvm.ClassFile.FieldType.boolean)) ∈ lw_all := lw_g (lw_at lw_m1 215 rfl) rfl
theorem q249 : (Jvm.Cond.methodLink "RaceFinder" (168 : Nat) ({ cls := "RaceFinder", name := "conflict", desc := "(II)Z" } : Jvm.MethodName)) ∈ lw_all := lw_g (lw_at lw_m1 216 rfl) rfl
theorem q250 : (Jvm.Cond.privateMethod ({ cls := "RaceFinder", name := "conflict", desc := "(II)Z" } : Jvm.MethodName)) ∈ lw_tbl := lw_at lw_m1 217 rfl
theorem q251 : (Jvm.Cond.instanceMethod ({ cls := "RaceFinder", name := "conflict", desc := "(II)Z" } : Jvm.MethodName)) ∈ lw_all := lw_g (lw_at lw_m1 218 rfl) rfl
theorem q252 : (Jvm.Cond.code ({ cls := "RaceFinder", name := "conflict", desc := "(II)Z" } : Jvm.MethodName) prog_1_method_30_code (9 : Nat) (Option.some Jvm.ClassFile.FieldType.boolean)) ∈ lw_all := lw_g (lw_at lw_m1 219 rfl) rfl
theorem q253 : (Jvm.Cond.methodLink "RaceFinder" (162 : Nat) ({ cls := "RaceFinder", name := "threadOf", desc := "(I)I" } : Jvm.MethodName)) ∈ lw_all := lw_g (lw_at lw_m1 220 rfl) rfl
theorem q254 : (Jvm.Cond.privateMethod ({ cls := "RaceFinder", name := "threadOf", desc := "(I)I" } : Jvm.MethodName)) ∈ lw_tbl := lw_at lw_m1 221 rfl
theorem q255 : (Jvm.Cond.instanceMethod ({ cls := "RaceFinder", name := "threadOf", desc := "(I)I" } : Jvm.MethodName)) ∈ lw_all := lw_g (lw_at lw_m1 222 rfl) rfl
theorem q256 : (Jvm.Cond.code ({ cls := "RaceFinder", name := "threadOf", desc := "(I)I" } : Jvm.MethodName) prog_1_method_28_code (2 : Nat) (Option.some Jvm.ClassFile.FieldType.int)) ∈ lw_all := lw_g (lw_at lw_m1 223 rfl) rfl
theorem q257 : (Jvm.Cond.methodLink "RaceFinder" (165 : Nat) ({ cls := "RaceFinder", name := "heldAt", desc := "(I)I" } : Jvm.MethodName)) ∈ lw_all := lw_g (lw_at lw_m1 224 rfl) rfl
theorem q258 : (Jvm.Cond.privateMethod ({ cls := "RaceFinder", name := "heldAt", desc := "(I)I" } : Jvm.MethodName)) ∈ lw_tbl := lw_at lw_m1 225 rfl
theorem q259 : (Jvm.Cond.instanceMethod ({ cls := "RaceFinder", name := "heldAt", desc := "(I)I" } : Jvm.MethodName)) ∈ lw_all := lw_g (lw_at lw_m1 226 rfl) rfl
theorem q260 : (Jvm.Cond.code ({ cls := "RaceFinder", name := "heldAt", desc := "(I)I" } : Jvm.MethodName) prog_1_method_29_code (6 : Nat) (Option.some Jvm.ClassFile.FieldType.int)) ∈ lw_all := lw_g (lw_at lw_m1 227 rfl) rfl
theorem q262 : (Jvm.Cond.instanceMethod ({ cls := "RaceFinder", name := "races", desc := "()I" } : Jvm.MethodName)) ∈ lw_all := lw_g (lw_at lw_m1 229 rfl) rfl
theorem q263 : (Jvm.Cond.selects "RaceFinder" ({ cls := "RaceFinder", name := "races", desc := "()I" } : Jvm.MethodName) ({ cls := "RaceFinder", name := "races", desc := "()I" } : Jvm.MethodName)) ∈ lw_all := lw_g (lw_at lw_m1 230 rfl) rfl
theorem q264 : (Jvm.Cond.code ({ cls := "RaceFinder", name := "races", desc := "()I" } : Jvm.MethodName) prog_1_method_32_code (5 : Nat) (Option.some Jvm.ClassFile.FieldType.int)) ∈ lw_all := lw_g (lw_at lw_m1 231 rfl) rfl
theorem q266 : (Jvm.Cond.instanceMethod ({ cls := "RaceFinder", name := "held", desc := "(I)I" } : Jvm.MethodName)) ∈ lw_all := lw_g (lw_at lw_m1 233 rfl) rfl
theorem q267 : (Jvm.Cond.selects "RaceFinder" ({ cls := "RaceFinder", name := "held", desc := "(I)I" } : Jvm.MethodName) ({ cls := "RaceFinder", name := "held", desc := "(I)I" } : Jvm.MethodName)) ∈ lw_all := lw_g (lw_at lw_m1 234 rfl) rfl
theorem q268 : (Jvm.Cond.code ({ cls := "RaceFinder", name := "held", desc := "(I)I" } : Jvm.MethodName) prog_1_method_33_code (2 : Nat) (Option.some Jvm.ClassFile.FieldType.int)) ∈ lw_all := lw_g (lw_at lw_m1 235 rfl) rfl
theorem q270 : (Jvm.Cond.instanceMethod ({ cls := "RaceFinder", name := "danger", desc := "()I" } : Jvm.MethodName)) ∈ lw_all := lw_g (lw_at lw_m1 237 rfl) rfl
theorem q271 : (Jvm.Cond.selects "RaceFinder" ({ cls := "RaceFinder", name := "danger", desc := "()I" } : Jvm.MethodName) ({ cls := "RaceFinder", name := "danger", desc := "()I" } : Jvm.MethodName)) ∈ lw_all := lw_g (lw_at lw_m1 238 rfl) rfl
theorem q272 : (Jvm.Cond.code ({ cls := "RaceFinder", name := "danger", desc := "()I" } : Jvm.MethodName) prog_1_method_38_code (6 : Nat) (Option.some Jvm.ClassFile.FieldType.int)) ∈ lw_all := lw_g (lw_at lw_m1 239 rfl) rfl
theorem q273 : (Jvm.Cond.methodLink "RaceFinder" (185 : Nat) ({ cls := "RaceFinder", name := "makeSteps", desc := "()V" } : Jvm.MethodName)) ∈ lw_all := lw_g (lw_at lw_m2 0 rfl) rfl
theorem q274 : (Jvm.Cond.privateMethod ({ cls := "RaceFinder", name := "makeSteps", desc := "()V" } : Jvm.MethodName)) ∈ lw_tbl := lw_at lw_m2 1 rfl
theorem q275 : (Jvm.Cond.instanceMethod ({ cls := "RaceFinder", name := "makeSteps", desc := "()V" } : Jvm.MethodName)) ∈ lw_all := lw_g (lw_at lw_m2 2 rfl) rfl
theorem q276 : (Jvm.Cond.code ({ cls := "RaceFinder", name := "makeSteps", desc := "()V" } : Jvm.MethodName) prog_1_method_34_code (4 : Nat) (Option.none : Option Jvm.ClassFile.FieldType)) ∈ lw_all := lw_g (lw_at lw_m2 3 rfl) rfl
theorem q277 : (Jvm.Cond.methodLink "RaceFinder" (172 : Nat) ({ cls := "RaceFinder", name := "addSteps", desc := "(III)V" } : Jvm.MethodName)) ∈ lw_all := lw_g (lw_at lw_m2 4 rfl) rfl
theorem q278 : (Jvm.Cond.privateMethod ({ cls := "RaceFinder", name := "addSteps", desc := "(III)V" } : Jvm.MethodName)) ∈ lw_tbl := lw_at lw_m2 5 rfl
theorem q279 : (Jvm.Cond.instanceMethod ({ cls := "RaceFinder", name := "addSteps", desc := "(III)V" } : Jvm.MethodName)) ∈ lw_all := lw_g (lw_at lw_m2 6 rfl) rfl
theorem q280 : (Jvm.Cond.code ({ cls := "RaceFinder", name := "addSteps", desc := "(III)V" } : Jvm.MethodName) prog_1_method_35_code (7 : Nat) (Option.none : Option Jvm.ClassFile.FieldType)) ∈ lw_all := lw_g (lw_at lw_m2 7 rfl) rfl
theorem q281 : (Jvm.Cond.methodLink "RaceFinder" (188 : Nat) ({ cls := "RaceFinder", name := "walk", desc := "(IZ)I" } : Jvm.MethodName)) ∈ lw_all := lw_g (lw_at lw_m2 8 rfl) rfl
theorem q282 : (Jvm.Cond.privateMethod ({ cls := "RaceFinder", name := "walk", desc := "(IZ)I" } : Jvm.MethodName)) ∈ lw_tbl := lw_at lw_m2 9 rfl
theorem q283 : (Jvm.Cond.instanceMethod ({ cls := "RaceFinder", name := "walk", desc := "(IZ)I" } : Jvm.MethodName)) ∈ lw_all := lw_g (lw_at lw_m2 10 rfl) rfl
theorem q284 : (Jvm.Cond.code ({ cls := "RaceFinder", name := "walk", desc := "(IZ)I" } : Jvm.MethodName) prog_1_method_37_code (9 : Nat) (Option.some Jvm.ClassFile.FieldType.int)) ∈ lw_all := lw_g (lw_at lw_m2 11 rfl) rfl
theorem q285 : (Jvm.Cond.methodLink "RaceFinder" (181 : Nat) ({ cls := "RaceFinder", name := "stepFrom", desc := "(IIZ)Z" } : Jvm.MethodName)) ∈ lw_all := lw_g (lw_at lw_m2 12 rfl) rfl
theorem q286 : (Jvm.Cond.privateMethod ({ cls := "RaceFinder", name := "stepFrom", desc := "(IIZ)Z" } : Jvm.MethodName)) ∈ lw_tbl := lw_at lw_m2 13 rfl
theorem q287 : (Jvm.Cond.instanceMethod ({ cls := "RaceFinder", name := "stepFrom", desc := "(IIZ)Z" } : Jvm.MethodName)) ∈ lw_all := lw_g (lw_at lw_m2 14 rfl) rfl
theorem q288 : (Jvm.Cond.code ({ cls := "RaceFinder", name := "stepFrom", desc := "(IIZ)Z" } : Jvm.MethodName) prog_1_method_36_code (4 : Nat) (Option.some Jvm.ClassFile.FieldType.boolean)) ∈ lw_all := lw_g (lw_at lw_m2 15 rfl) rfl
theorem q289 : (Jvm.Cond.methodLink "RaceFinder" (192 : Nat) ({ cls := "RaceFinder", name := "twoThreads", desc := "(I)Z" } : Jvm.MethodName)) ∈ lw_all := lw_g (lw_at lw_m2 16 rfl) rfl
theorem q290 : (Jvm.Cond.privateMethod ({ cls := "RaceFinder", name := "twoThreads", desc := "(I)Z" } : Jvm.MethodName)) ∈ lw_tbl := lw_at lw_m2 17 rfl
theorem q291 : (Jvm.Cond.instanceMethod ({ cls := "RaceFinder", name := "twoThreads", desc := "(I)Z" } : Jvm.MethodName)) ∈ lw_all := lw_g (lw_at lw_m2 18 rfl) rfl
theorem q292 : (Jvm.Cond.code ({ cls := "RaceFinder", name := "twoThreads", desc := "(I)Z" } : Jvm.MethodName) prog_1_method_39_code (5 : Nat) (Option.some Jvm.ClassFile.FieldType.boolean)) ∈ lw_all := lw_g (lw_at lw_m2 19 rfl) rfl
theorem in_X0 : ∀ w ∈ wsX00, w ∈ lw_all := lw_in wsX00 [77, 79, 81, 83, 85, 87, 89, 91, 93, 95, 97, 99, 101, 103, 105, 107, 109, 111, 113, 115, 117, 119, 121, 123, 125, 127, 129, 131, 133, 135, 137, 139, 141] (by decide +kernel) (by decide +kernel)
/-! RaceFinderModel -/
def RX1 : String := "RaceFinderModel"
def TX1 : u_T := fun k => match k with
  | 0 => ("RaceFinderModel", "allocs", "[I", true)
  | 1 => ("RaceFinderModel", "copies", "[I", true)
  | 2 => ("RaceFinderModel", "loads", "I", false)
  | 3 => ("RaceFinderModel", "loadV", "[I", true)
  | 4 => ("RaceFinderModel", "loadW", "[I", true)
  | 5 => ("RaceFinderModel", "loadF", "[I", true)
  | 6 => ("RaceFinderModel", "stores", "I", false)
  | 7 => ("RaceFinderModel", "storeV", "[I", true)
  | 8 => ("RaceFinderModel", "storeW", "[I", true)
  | 9 => ("RaceFinderModel", "storeF", "[I", true)
  | 10 => ("RaceFinderModel", "single", "[Z", true)
  | 11 => ("RaceFinderModel", "regions", "I", false)
  | 12 => ("RaceFinderModel", "threadOf", "[I", true)
  | 13 => ("RaceFinderModel", "locked", "[I", true)
  | 14 => ("RaceFinderModel", "outer", "[I", true)
  | 15 => ("RaceFinderModel", "accesses", "I", false)
  | 16 => ("RaceFinderModel", "placeOf", "[I", true)
  | 17 => ("RaceFinderModel", "accessV", "[I", true)
  | 18 => ("RaceFinderModel", "accessF", "[I", true)
  | 19 => ("RaceFinderModel", "writes", "[Z", true)
  | 20 => ("RaceFinderModel", "known", "Z", false)
  | 21 => ("RaceFinderModel", "p", "[I", true)
  | 22 => ("RaceFinderModel", "h", "[I", true)
  | 23 => ("RaceFinderModel", "steps", "[I", true)
  | _ => ("RaceFinderModel", "reach", "[I", true)
def tyX1 : Nat → FieldType := fun k => match k with
  | 0 => .array .int
  | 1 => .array .int
  | 2 => .int
  | 3 => .array .int
  | 4 => .array .int
  | 5 => .array .int
  | 6 => .int
  | 7 => .array .int
  | 8 => .array .int
  | 9 => .array .int
  | 10 => .array .boolean
  | 11 => .int
  | 12 => .array .int
  | 13 => .array .int
  | 14 => .array .int
  | 15 => .int
  | 16 => .array .int
  | 17 => .array .int
  | 18 => .array .int
  | 19 => .array .boolean
  | 20 => .boolean
  | 21 => .array .int
  | 22 => .array .int
  | 23 => .array .int
  | _ => .array .int
abbrev wsX10 : List Cond := u_ws RX1 TX1 25
set_option maxRecDepth 100000 in
theorem nmX1 : ∀ a, a < 25 → ∀ b, b < 25 → a ≠ b → (TX1 a).2.1 ≠ (TX1 b).2.1 := by decide +kernel
set_option maxRecDepth 100000 in
theorem tyX1_ok : ∀ k, k < 25 → parseFieldDescriptor (TX1 k).2.2.1 = some (tyX1 k) := by decide +kernel
abbrev cX1_init : ByteArray := prog_3_method_1_code
def yX1_init : MethodName := ⟨RX1, "<init>", "()V"⟩
abbrev cX1_alloc : ByteArray := prog_3_method_8_code
def yX1_alloc : MethodName := ⟨RX1, "alloc", "(II)I"⟩
abbrev cX1_badV : ByteArray := prog_3_method_2_code
def yX1_badV : MethodName := ⟨RX1, "badV", "(I)Z"⟩
abbrev cX1_workOut : ByteArray := prog_3_method_7_code
def yX1_workOut : MethodName := ⟨RX1, "workOut", "()V"⟩
abbrev cX1_sweep : ByteArray := prog_3_method_5_code
def yX1_sweep : MethodName := ⟨RX1, "sweep", "()V"⟩
abbrev cX1_total : ByteArray := prog_3_method_6_code
def yX1_total : MethodName := ⟨RX1, "total", "()I"⟩
abbrev cX1_size : ByteArray := prog_3_method_4_code
def yX1_size : MethodName := ⟨RX1, "size", "(I)I"⟩
abbrev cX1_copy : ByteArray := prog_3_method_9_code
def yX1_copy : MethodName := ⟨RX1, "copy", "(II)I"⟩
abbrev cX1_load : ByteArray := prog_3_method_10_code
def yX1_load : MethodName := ⟨RX1, "load", "(III)I"⟩
abbrev cX1_badF : ByteArray := prog_3_method_3_code
def yX1_badF : MethodName := ⟨RX1, "badF", "(I)Z"⟩
abbrev cX1_store : ByteArray := prog_3_method_11_code
def yX1_store : MethodName := ⟨RX1, "store", "(III)I"⟩
abbrev cX1_once : ByteArray := prog_3_method_12_code
def yX1_once : MethodName := ⟨RX1, "once", "(IZ)I"⟩
abbrev cX1_region : ByteArray := prog_3_method_13_code
def yX1_region : MethodName := ⟨RX1, "region", "(III)I"⟩
abbrev cX1_access : ByteArray := prog_3_method_15_code
def yX1_access : MethodName := ⟨RX1, "access", "(IIIZ)I"⟩
abbrev cX1_badPlace : ByteArray := prog_3_method_14_code
def yX1_badPlace : MethodName := ⟨RX1, "badPlace", "(I)Z"⟩
abbrev cX1_pointsTo : ByteArray := prog_3_method_16_code
def yX1_pointsTo : MethodName := ⟨RX1, "pointsTo", "(I)I"⟩
abbrev cX1_holds : ByteArray := prog_3_method_17_code
def yX1_holds : MethodName := ⟨RX1, "holds", "(II)I"⟩
abbrev cX1_race : ByteArray := prog_3_method_19_code
def yX1_race : MethodName := ⟨RX1, "race", "(II)Z"⟩
abbrev cX1_threadAt : ByteArray := prog_3_method_18_code
def yX1_threadAt : MethodName := ⟨RX1, "threadAt", "(I)I"⟩
abbrev cX1_held : ByteArray := prog_3_method_21_code
def yX1_held : MethodName := ⟨RX1, "held", "(I)I"⟩
abbrev cX1_races : ByteArray := prog_3_method_20_code
def yX1_races : MethodName := ⟨RX1, "races", "()I"⟩
abbrev cX1_danger : ByteArray := prog_3_method_27_code
def yX1_danger : MethodName := ⟨RX1, "danger", "()I"⟩
abbrev cX1_allSteps : ByteArray := prog_3_method_23_code
def yX1_allSteps : MethodName := ⟨RX1, "allSteps", "()V"⟩
abbrev cX1_step : ByteArray := prog_3_method_22_code
def yX1_step : MethodName := ⟨RX1, "step", "(III)V"⟩
abbrev cX1_allWays : ByteArray := prog_3_method_24_code
def yX1_allWays : MethodName := ⟨RX1, "allWays", "()V"⟩
abbrev cX1_beyond : ByteArray := prog_3_method_25_code
def yX1_beyond : MethodName := ⟨RX1, "beyond", "(I)I"⟩
abbrev cX1_threadsAround : ByteArray := prog_3_method_26_code
def yX1_threadsAround : MethodName := ⟨RX1, "threadsAround", "(I)I"⟩
theorem q35 : (Jvm.Cond.initialized "RaceFinderModel") ∈ lw_all := lw_g (lw_at lw_m1 2 rfl) rfl
theorem q294 : (Jvm.Cond.instantiable "RaceFinderModel" (25 : Nat)) ∈ lw_all := lw_g (lw_at lw_m2 21 rfl) rfl
theorem q296 : (Jvm.Cond.instanceMethod ({ cls := "RaceFinderModel", name := "<init>", desc := "()V" } : Jvm.MethodName)) ∈ lw_all := lw_g (lw_at lw_m2 23 rfl) rfl
theorem q297 : (Jvm.Cond.code ({ cls := "RaceFinderModel", name := "<init>", desc := "()V" } : Jvm.MethodName) prog_3_method_1_code (1 : Nat) (Option.none : Option Jvm.ClassFile.FieldType)) ∈ lw_all := lw_g (lw_at lw_m2 24 rfl) rfl
theorem q298 : (Jvm.Cond.methodLink "RaceFinderModel" (1 : Nat) ({ cls := "java/lang/Object", name := "<init>", desc := "()V" } : Jvm.MethodName)) ∈ lw_all := lw_g (lw_at lw_m2 25 rfl) rfl
theorem q299 : (Jvm.Cond.fieldLink "RaceFinderModel" (7 : Nat) "RaceFinderModel" "allocs" "[I") ∈ lw_all := lw_g (lw_at lw_m2 26 rfl) rfl
theorem q300 : (Jvm.Cond.fieldLink "RaceFinderModel" (13 : Nat) "RaceFinderModel" "copies" "[I") ∈ lw_all := lw_g (lw_at lw_m2 27 rfl) rfl
theorem q301 : (Jvm.Cond.fieldLink "RaceFinderModel" (71 : Nat) "RaceFinderModel" "loads" "I") ∈ lw_all := lw_g (lw_at lw_m2 28 rfl) rfl
theorem q302 : (Jvm.Cond.fieldLink "RaceFinderModel" (16 : Nat) "RaceFinderModel" "loadV" "[I") ∈ lw_all := lw_g (lw_at lw_m2 29 rfl) rfl
theorem q303 : (Jvm.Cond.fieldLink "RaceFinderModel" (19 : Nat) "RaceFinderModel" "loadW" "[I") ∈ lw_all := lw_g (lw_at lw_m2 30 rfl) rfl
theorem q304 : (Jvm.Cond.fieldLink "RaceFinderModel" (22 : Nat) "RaceFinderModel" "loadF" "[I") ∈ lw_all := lw_g (lw_at lw_m2 31 rfl) rfl
theorem q305 : (Jvm.Cond.fieldLink "RaceFinderModel" (75 : Nat) "RaceFinderModel" "stores" "I") ∈ lw_all := lw_g (lw_at lw_m2 32 rfl) rfl
theorem q306 : (Jvm.Cond.fieldLink "RaceFinderModel" (25 : Nat) "RaceFinderModel" "storeV" "[I") ∈ lw_all := lw_g (lw_at lw_m2 33 rfl) rfl
theorem q307 : (Jvm.Cond.fieldLink "RaceFinderModel" (28 : Nat) "RaceFinderModel" "storeW" "[I") ∈ lw_all := lw_g (lw_at lw_m2 34 rfl) rfl
theorem q308 : (Jvm.Cond.fieldLink "RaceFinderModel" (31 : Nat) "RaceFinderModel" "storeF" "[I") ∈ lw_all := lw_g (lw_at lw_m2 35 rfl) rfl
theorem q309 : (Jvm.Cond.fieldLink "RaceFinderModel" (34 : Nat) "RaceFinderModel" "single" "[Z") ∈ lw_all := lw_g (lw_at lw_m2 36 rfl) rfl
theorem q310 : (Jvm.Cond.fieldLink "RaceFinderModel" (103 : Nat) "RaceFinderModel" "regions" "I") ∈ lw_all := lw_g (lw_at lw_m2 37 rfl) rfl
theorem q311 : (Jvm.Cond.fieldLink "RaceFinderModel" (38 : Nat) "RaceFinderModel" "threadOf" "[I") ∈ lw_all := lw_g (lw_at lw_m2 38 rfl) rfl
theorem q312 : (Jvm.Cond.fieldLink "RaceFinderModel" (41 : Nat) "RaceFinderModel" "locked" "[I") ∈ lw_all := lw_g (lw_at lw_m2 39 rfl) rfl
theorem q313 : (Jvm.Cond.fieldLink "RaceFinderModel" (44 : Nat) "RaceFinderModel" "outer" "[I") ∈ lw_all := lw_g (lw_at lw_m2 40 rfl) rfl
theorem q314 : (Jvm.Cond.fieldLink "RaceFinderModel" (109 : Nat) "RaceFinderModel" "accesses" "I") ∈ lw_all := lw_g (lw_at lw_m2 41 rfl) rfl
theorem q315 : (Jvm.Cond.fieldLink "RaceFinderModel" (47 : Nat) "RaceFinderModel" "placeOf" "[I") ∈ lw_all := lw_g (lw_at lw_m2 42 rfl) rfl
theorem q316 : (Jvm.Cond.fieldLink "RaceFinderModel" (50 : Nat) "RaceFinderModel" "accessV" "[I") ∈ lw_all := lw_g (lw_at lw_m2 43 rfl) rfl
theorem q317 : (Jvm.Cond.fieldLink "RaceFinderModel" (53 : Nat) "RaceFinderModel" "accessF" "[I") ∈ lw_all := lw_g (lw_at lw_m2 44 rfl) rfl
theorem q318 : (Jvm.Cond.fieldLink "RaceFinderModel" (56 : Nat) "RaceFinderModel" "writes" "[Z") ∈ lw_all := lw_g (lw_at lw_m2 45 rfl) rfl
theorem q319 : (Jvm.Cond.fieldLink "RaceFinderModel" (82 : Nat) "RaceFinderModel" "known" "Z") ∈ lw_all := lw_g (lw_at lw_m2 46 rfl) rfl
theorem q320 : (Jvm.Cond.fieldLink "RaceFinderModel" (59 : Nat) "RaceFinderModel" "p" "[I") ∈ lw_all := lw_g (lw_at lw_m2 47 rfl) rfl
theorem q321 : (Jvm.Cond.fieldLink "RaceFinderModel" (62 : Nat) "RaceFinderModel" "h" "[I") ∈ lw_all := lw_g (lw_at lw_m2 48 rfl) rfl
theorem q322 : (Jvm.Cond.fieldLink "RaceFinderModel" (65 : Nat) "RaceFinderModel" "steps" "[I") ∈ lw_all := lw_g (lw_at lw_m2 49 rfl) rfl
theorem q323 : (Jvm.Cond.fieldLink "RaceFinderModel" (68 : Nat) "RaceFinderModel" "reach" "[I") ∈ lw_all := lw_g (lw_at lw_m2 50 rfl) rfl
theorem q324 : (Jvm.Cond.laysFinal "RaceFinderModel" "RaceFinderModel" "allocs" "[I") ∈ lw_all := lw_g (lw_at lw_m2 51 rfl) rfl
theorem q325 : (Jvm.Cond.soleField "RaceFinderModel" "allocs") ∈ lw_all := lw_g (lw_at lw_m2 52 rfl) rfl
theorem q326 : (Jvm.Cond.laysFinal "RaceFinderModel" "RaceFinderModel" "copies" "[I") ∈ lw_all := lw_g (lw_at lw_m2 53 rfl) rfl
theorem q327 : (Jvm.Cond.soleField "RaceFinderModel" "copies") ∈ lw_all := lw_g (lw_at lw_m2 54 rfl) rfl
theorem q328 : (Jvm.Cond.lays "RaceFinderModel" "RaceFinderModel" "loads" "I") ∈ lw_all := lw_g (lw_at lw_m2 55 rfl) rfl
theorem q329 : (Jvm.Cond.soleField "RaceFinderModel" "loads") ∈ lw_all := lw_g (lw_at lw_m2 56 rfl) rfl
theorem q330 : (Jvm.Cond.laysFinal "RaceFinderModel" "RaceFinderModel" "loadV" "[I") ∈ lw_all := lw_g (lw_at lw_m2 57 rfl) rfl
theorem q331 : (Jvm.Cond.soleField "RaceFinderModel" "loadV") ∈ lw_all := lw_g (lw_at lw_m2 58 rfl) rfl
theorem q332 : (Jvm.Cond.laysFinal "RaceFinderModel" "RaceFinderModel" "loadW" "[I") ∈ lw_all := lw_g (lw_at lw_m2 59 rfl) rfl
theorem q333 : (Jvm.Cond.soleField "RaceFinderModel" "loadW") ∈ lw_all := lw_g (lw_at lw_m2 60 rfl) rfl
theorem q334 : (Jvm.Cond.laysFinal "RaceFinderModel" "RaceFinderModel" "loadF" "[I") ∈ lw_all := lw_g (lw_at lw_m2 61 rfl) rfl
theorem q335 : (Jvm.Cond.soleField "RaceFinderModel" "loadF") ∈ lw_all := lw_g (lw_at lw_m2 62 rfl) rfl
theorem q336 : (Jvm.Cond.lays "RaceFinderModel" "RaceFinderModel" "stores" "I") ∈ lw_all := lw_g (lw_at lw_m2 63 rfl) rfl
theorem q337 : (Jvm.Cond.soleField "RaceFinderModel" "stores") ∈ lw_all := lw_g (lw_at lw_m2 64 rfl) rfl
theorem q338 : (Jvm.Cond.laysFinal "RaceFinderModel" "RaceFinderModel" "storeV" "[I") ∈ lw_all := lw_g (lw_at lw_m2 65 rfl) rfl
theorem q339 : (Jvm.Cond.soleField "RaceFinderModel" "storeV") ∈ lw_all := lw_g (lw_at lw_m2 66 rfl) rfl
theorem q340 : (Jvm.Cond.laysFinal "RaceFinderModel" "RaceFinderModel" "storeW" "[I") ∈ lw_all := lw_g (lw_at lw_m2 67 rfl) rfl
theorem q341 : (Jvm.Cond.soleField "RaceFinderModel" "storeW") ∈ lw_all := lw_g (lw_at lw_m2 68 rfl) rfl
theorem q342 : (Jvm.Cond.laysFinal "RaceFinderModel" "RaceFinderModel" "storeF" "[I") ∈ lw_all := lw_g (lw_at lw_m2 69 rfl) rfl
theorem q343 : (Jvm.Cond.soleField "RaceFinderModel" "storeF") ∈ lw_all := lw_g (lw_at lw_m2 70 rfl) rfl
theorem q344 : (Jvm.Cond.laysFinal "RaceFinderModel" "RaceFinderModel" "single" "[Z") ∈ lw_all := lw_g (lw_at lw_m2 71 rfl) rfl
theorem q345 : (Jvm.Cond.soleField "RaceFinderModel" "single") ∈ lw_all := lw_g (lw_at lw_m2 72 rfl) rfl
theorem q346 : (Jvm.Cond.lays "RaceFinderModel" "RaceFinderModel" "regions" "I") ∈ lw_all := lw_g (lw_at lw_m2 73 rfl) rfl
theorem q347 : (Jvm.Cond.soleField "RaceFinderModel" "regions") ∈ lw_all := lw_g (lw_at lw_m2 74 rfl) rfl
theorem q348 : (Jvm.Cond.laysFinal "RaceFinderModel" "RaceFinderModel" "threadOf" "[I") ∈ lw_all := lw_g (lw_at lw_m2 75 rfl) rfl
theorem q349 : (Jvm.Cond.soleField "RaceFinderModel" "threadOf") ∈ lw_all := lw_g (lw_at lw_m2 76 rfl) rfl
theorem q350 : (Jvm.Cond.laysFinal "RaceFinderModel" "RaceFinderModel" "locked" "[I") ∈ lw_all := lw_g (lw_at lw_m2 77 rfl) rfl
theorem q351 : (Jvm.Cond.soleField "RaceFinderModel" "locked") ∈ lw_all := lw_g (lw_at lw_m2 78 rfl) rfl
theorem q352 : (Jvm.Cond.laysFinal "RaceFinderModel" "RaceFinderModel" "outer" "[I") ∈ lw_all := lw_g (lw_at lw_m2 79 rfl) rfl
theorem q353 : (Jvm.Cond.soleField "RaceFinderModel" "outer") ∈ lw_all := lw_g (lw_at lw_m2 80 rfl) rfl
theorem q354 : (Jvm.Cond.lays "RaceFinderModel" "RaceFinderModel" "accesses" "I") ∈ lw_all := lw_g (lw_at lw_m2 81 rfl) rfl
theorem q355 : (Jvm.Cond.soleField "RaceFinderModel" "accesses") ∈ lw_all := lw_g (lw_at lw_m2 82 rfl) rfl
theorem q356 : (Jvm.Cond.laysFinal "RaceFinderModel" "RaceFinderModel" "placeOf" "[I") ∈ lw_all := lw_g (lw_at lw_m2 83 rfl) rfl
theorem q357 : (Jvm.Cond.soleField "RaceFinderModel" "placeOf") ∈ lw_all := lw_g (lw_at lw_m2 84 rfl) rfl
theorem q358 : (Jvm.Cond.laysFinal "RaceFinderModel" "RaceFinderModel" "accessV" "[I") ∈ lw_all := lw_g (lw_at lw_m2 85 rfl) rfl
theorem q359 : (Jvm.Cond.soleField "RaceFinderModel" "accessV") ∈ lw_all := lw_g (lw_at lw_m2 86 rfl) rfl
theorem q360 : (Jvm.Cond.laysFinal "RaceFinderModel" "RaceFinderModel" "accessF" "[I") ∈ lw_all := lw_g (lw_at lw_m2 87 rfl) rfl
theorem q361 : (Jvm.Cond.soleField "RaceFinderModel" "accessF") ∈ lw_all := lw_g (lw_at lw_m2 88 rfl) rfl
theorem q362 : (Jvm.Cond.laysFinal "RaceFinderModel" "RaceFinderModel" "writes" "[Z") ∈ lw_all := lw_g (lw_at lw_m2 89 rfl) rfl
theorem q363 : (Jvm.Cond.soleField "RaceFinderModel" "writes") ∈ lw_all := lw_g (lw_at lw_m2 90 rfl) rfl
theorem q364 : (Jvm.Cond.lays "RaceFinderModel" "RaceFinderModel" "known" "Z") ∈ lw_all := lw_g (lw_at lw_m2 91 rfl) rfl
theorem q365 : (Jvm.Cond.soleField "RaceFinderModel" "known") ∈ lw_all := lw_g (lw_at lw_m2 92 rfl) rfl
theorem q366 : (Jvm.Cond.laysFinal "RaceFinderModel" "RaceFinderModel" "p" "[I") ∈ lw_all := lw_g (lw_at lw_m2 93 rfl) rfl
theorem q367 : (Jvm.Cond.soleField "RaceFinderModel" "p") ∈ lw_all := lw_g (lw_at lw_m2 94 rfl) rfl
theorem q368 : (Jvm.Cond.laysFinal "RaceFinderModel" "RaceFinderModel" "h" "[I") ∈ lw_all := lw_g (lw_at lw_m2 95 rfl) rfl
theorem q369 : (Jvm.Cond.soleField "RaceFinderModel" "h") ∈ lw_all := lw_g (lw_at lw_m2 96 rfl) rfl
theorem q370 : (Jvm.Cond.laysFinal "RaceFinderModel" "RaceFinderModel" "steps" "[I") ∈ lw_all := lw_g (lw_at lw_m2 97 rfl) rfl
theorem q371 : (Jvm.Cond.soleField "RaceFinderModel" "steps") ∈ lw_all := lw_g (lw_at lw_m2 98 rfl) rfl
theorem q372 : (Jvm.Cond.laysFinal "RaceFinderModel" "RaceFinderModel" "reach" "[I") ∈ lw_all := lw_g (lw_at lw_m2 99 rfl) rfl
theorem q373 : (Jvm.Cond.soleField "RaceFinderModel" "reach") ∈ lw_all := lw_g (lw_at lw_m2 100 rfl) rfl
theorem q374 : (Jvm.Cond.superclass "RaceFinderModel" "java/lang/Object") ∈ lw_all := lw_g (lw_at lw_m2 101 rfl) rfl
theorem q376 : (Jvm.Cond.instanceMethod ({ cls := "RaceFinderModel", name := "alloc", desc := "(II)I" } : Jvm.MethodName)) ∈ lw_all := lw_g (lw_at lw_m2 103 rfl) rfl
theorem q377 : (Jvm.Cond.selects "RaceFinderModel" ({ cls := "RaceFinderModel", name := "alloc", desc := "(II)I" } : Jvm.MethodName) ({ cls := "RaceFinderModel", name := "alloc", desc := "(II)I" } : Jvm.MethodName)) ∈ lw_all := lw_g (lw_at lw_m2 104 rfl) rfl
theorem q378 : (Jvm.Cond.code ({ cls := "RaceFinderModel", name := "alloc", desc := "(II)I" } : Jvm.MethodName) prog_3_method_8_code (3 : Nat) (Option.some Jvm.ClassFile.FieldType.int)) ∈ lw_all := lw_g (lw_at lw_m2 105 rfl) rfl
theorem q379 : (Jvm.Cond.methodLink "RaceFinderModel" (93 : Nat) ({ cls := "RaceFinderModel", name := "badV", desc := "(I)Z" } : Jvm.MethodName)) ∈ lw_all := lw_g (lw_at lw_m2 106 rfl) rfl
theorem q380 : (Jvm.Cond.privateMethod ({ cls := "RaceFinderModel", name := "badV", desc := "(I)Z" } : Jvm.MethodName)) ∈ lw_tbl := lw_at lw_m2 107 rfl
theorem q381 : (Jvm.Cond.instanceMethod ({ cls := "RaceFinderModel", name := "badV", desc := "(I)Z" } : Jvm.MethodName)) ∈ lw_all := lw_g (lw_at lw_m2 108 rfl) rfl
theorem q382 : (Jvm.Cond.code ({ cls := "RaceFinderModel", name := "badV", desc := "(I)Z" } : Jvm.MethodName) prog_3_method_2_code (2 : Nat) (Option.some Jvm.ClassFile.FieldType.boolean)) ∈ lw_all := lw_g (lw_at lw_m2 109 rfl) rfl
theorem q383 : (Jvm.Cond.methodLink "RaceFinderModel" (97 : Nat) ({ cls := "RaceFinderModel", name := "workOut", desc := "()V" } : Jvm.MethodName)) ∈ lw_all := lw_g (lw_at lw_m2 110 rfl) rfl
theorem q384 : (Jvm.Cond.privateMethod ({ cls := "RaceFinderModel", name := "workOut", desc := "()V" } : Jvm.MethodName)) ∈ lw_tbl := lw_at lw_m2 111 rfl
theorem q385 : (Jvm.Cond.instanceMethod ({ cls := "RaceFinderModel", name := "workOut", desc := "()V" } : Jvm.MethodName)) ∈ lw_all := lw_g (lw_at lw_m2 112 rfl) rfl
theorem q386 : (Jvm.Cond.code ({ cls := "RaceFinderModel", name := "workOut", desc := "()V" } : Jvm.MethodName) prog_3_method_7_code (4 : Nat) (Option.none : Option Jvm.ClassFile.FieldType)) ∈ lw_all := lw_g (lw_at lw_m2 113 rfl) rfl
theorem q387 : (Jvm.Cond.methodLink "RaceFinderModel" (86 : Nat) ({ cls := "RaceFinderModel", name := "sweep", desc := "()V" } : Jvm.MethodName)) ∈ lw_all := lw_g (lw_at lw_m2 114 rfl) rfl
theorem q388 : (Jvm.Cond.privateMethod ({ cls := "RaceFinderModel", name := "sweep", desc := "()V" } : Jvm.MethodName)) ∈ lw_tbl := lw_at lw_m2 115 rfl
theorem q389 : (Jvm.Cond.instanceMethod ({ cls := "RaceFinderModel", name := "sweep", desc := "()V" } : Jvm.MethodName)) ∈ lw_all := lw_g (lw_at lw_m2 116 rfl) rfl
theorem q390 : (Jvm.Cond.code ({ cls := "RaceFinderModel", name := "sweep", desc := "()V" } : Jvm.MethodName) prog_3_method_5_code (3 : Nat) (Option.none : Option Jvm.ClassFile.FieldType)) ∈ lw_all := lw_g (lw_at lw_m2 117 rfl) rfl
theorem q391 : (Jvm.Cond.methodLink "RaceFinderModel" (89 : Nat) ({ cls := "RaceFinderModel", name := "total", desc := "()I" } : Jvm.MethodName)) ∈ lw_all := lw_g (lw_at lw_m2 118 rfl) rfl
theorem q392 : (Jvm.Cond.privateMethod ({ cls := "RaceFinderModel", name := "total", desc := "()I" } : Jvm.MethodName)) ∈ lw_tbl := lw_at lw_m2 119 rfl
theorem q393 : (Jvm.Cond.instanceMethod ({ cls := "RaceFinderModel", name := "total", desc := "()I" } : Jvm.MethodName)) ∈ lw_all := lw_g (lw_at lw_m2 120 rfl) rfl
theorem q394 : (Jvm.Cond.code ({ cls := "RaceFinderModel", name := "total", desc := "()I" } : Jvm.MethodName) prog_3_method_6_code (4 : Nat) (Option.some Jvm.ClassFile.FieldType.int)) ∈ lw_all := lw_g (lw_at lw_m2 121 rfl) rfl
theorem q395 : (Jvm.Cond.methodLink "RaceFinderModel" (78 : Nat) ({ cls := "RaceFinderModel", name := "size", desc := "(I)I" } : Jvm.MethodName)) ∈ lw_all := lw_g (lw_at lw_m2 122 rfl) rfl
theorem q396 : (Jvm.Cond.privateMethod ({ cls := "RaceFinderModel", name := "size", desc := "(I)I" } : Jvm.MethodName)) ∈ lw_tbl := lw_at lw_m2 123 rfl
theorem q397 : (Jvm.Cond.instanceMethod ({ cls := "RaceFinderModel", name := "size", desc := "(I)I" } : Jvm.MethodName)) ∈ lw_all := lw_g (lw_at lw_m2 124 rfl) rfl
theorem q398 : (Jvm.Cond.code ({ cls := "RaceFinderModel", name := "size", desc := "(I)I" } : Jvm.MethodName) prog_3_method_4_code (4 : Nat) (Option.some Jvm.ClassFile.FieldType.int)) ∈ lw_all := lw_g (lw_at lw_m2 125 rfl) rfl
theorem q400 : (Jvm.Cond.instanceMethod ({ cls := "RaceFinderModel", name := "copy", desc := "(II)I" } : Jvm.MethodName)) ∈ lw_all := lw_g (lw_at lw_m2 127 rfl) rfl
theorem q401 : (Jvm.Cond.selects "RaceFinderModel" ({ cls := "RaceFinderModel", name := "copy", desc := "(II)I" } : Jvm.MethodName) ({ cls := "RaceFinderModel", name := "copy", desc := "(II)I" } : Jvm.MethodName)) ∈ lw_all := lw_g (lw_at lw_m2 128 rfl) rfl
theorem q402 : (Jvm.Cond.code ({ cls := "RaceFinderModel", name := "copy", desc := "(II)I" } : Jvm.MethodName) prog_3_method_9_code (3 : Nat) (Option.some Jvm.ClassFile.FieldType.int)) ∈ lw_all := lw_g (lw_at lw_m2 129 rfl) rfl
theorem q404 : (Jvm.Cond.instanceMethod ({ cls := "RaceFinderModel", name := "load", desc := "(III)I" } : Jvm.MethodName)) ∈ lw_all := lw_g (lw_at lw_m2 131 rfl) rfl
theorem q405 : (Jvm.Cond.selects "RaceFinderModel" ({ cls := "RaceFinderModel", name := "load", desc := "(III)I" } : Jvm.MethodName) ({ cls := "RaceFinderModel", name := "load", desc := "(III)I" } : Jvm.MethodName)) ∈ lw_all := lw_g (lw_at lw_m2 132 rfl) rfl
theorem q406 : (Jvm.Cond.code ({ cls := "RaceFinderModel", name := "load", desc := "(III)I" } : Jvm.MethodName) prog_3_method_10_code (4 : Nat) (Option.some Jvm.ClassFile.FieldType.int)) ∈ lw_all := lw_g (lw_at lw_m2 133 rfl) rfl
theorem q407 : (Jvm.Cond.methodLink "RaceFinderModel" (100 : Nat) ({ cls := "RaceFinderModel", name := "badF", desc := "(I)Z" } : Jvm.MethodName)) ∈ lw_all := lw_g (lw_at lw_m2 134 rfl) rfl
theorem q408 : (Jvm.Cond.privateMethod ({ cls := "RaceFinderModel", name := "badF", desc := "(I)Z" } : Jvm.MethodName)) ∈ lw_tbl := lw_at lw_m2 135 rfl
theorem q409 : (Jvm.Cond.instanceMethod ({ cls := "RaceFinderModel", name := "badF", desc := "(I)Z" } : Jvm.MethodName)) ∈ lw_all := lw_g (lw_at lw_m2 136 rfl) rfl
theorem q410 : (Jvm.Cond.code ({ cls := "RaceFinderModel", name := "badF", desc := "(I)Z" } : Jvm.MethodName) prog_3_method_3_code (2 : Nat) (Option.some Jvm.ClassFile.FieldType.boolean)) ∈ lw_all := lw_g (lw_at lw_m2 137 rfl) rfl
theorem q412 : (Jvm.Cond.instanceMethod ({ cls := "RaceFinderModel", name := "store", desc := "(III)I" } : Jvm.MethodName)) ∈ lw_all := lw_g (lw_at lw_m2 139 rfl) rfl
theorem q413 : (Jvm.Cond.selects "RaceFinderModel" ({ cls := "RaceFinderModel", name := "store", desc := "(III)I" } : Jvm.MethodName) ({ cls := "RaceFinderModel", name := "store", desc := "(III)I" } : Jvm.MethodName)) ∈ lw_all := lw_g (lw_at lw_m2 140 rfl) rfl
theorem q414 : (Jvm.Cond.code ({ cls := "RaceFinderModel", name := "store", desc := "(III)I" } : Jvm.MethodName) prog_3_method_11_code (4 : Nat) (Option.some Jvm.ClassFile.FieldType.int)) ∈ lw_all := lw_g (lw_at lw_m2 141 rfl) rfl
theorem q416 : (Jvm.Cond.instanceMethod ({ cls := "RaceFinderModel", name := "once", desc := "(IZ)I" } : Jvm.MethodName)) ∈ lw_all := lw_g (lw_at lw_m2 143 rfl) rfl
theorem q417 : (Jvm.Cond.selects "RaceFinderModel" ({ cls := "RaceFinderModel", name := "once", desc := "(IZ)I" } : Jvm.MethodName) ({ cls := "RaceFinderModel", name := "once", desc := "(IZ)I" } : Jvm.MethodName)) ∈ lw_all := lw_g (lw_at lw_m2 144 rfl) rfl
theorem q418 : (Jvm.Cond.code ({ cls := "RaceFinderModel", name := "once", desc := "(IZ)I" } : Jvm.MethodName) prog_3_method_12_code (4 : Nat) (Option.some Jvm.ClassFile.FieldType.int)) ∈ lw_all := lw_g (lw_at lw_m2 145 rfl) rfl
theorem q420 : (Jvm.Cond.instanceMethod ({ cls := "RaceFinderModel", name := "region", desc := "(III)I" } : Jvm.MethodName)) ∈ lw_all := lw_g (lw_at lw_m2 147 rfl) rfl
theorem q421 : (Jvm.Cond.selects "RaceFinderModel" ({ cls := "RaceFinderModel", name := "region", desc := "(III)I" } : Jvm.MethodName) ({ cls := "RaceFinderModel", name := "region", desc := "(III)I" } : Jvm.MethodName)) ∈ lw_all := lw_g (lw_at lw_m2 148 rfl) rfl
theorem q422 : (Jvm.Cond.code ({ cls := "RaceFinderModel", name := "region", desc := "(III)I" } : Jvm.MethodName) prog_3_method_13_code (4 : Nat) (Option.some Jvm.ClassFile.FieldType.int)) ∈ lw_all := lw_g (lw_at lw_m2 149 rfl) rfl
theorem q424 : (Jvm.Cond.instanceMethod ({ cls := "RaceFinderModel", name := "access", desc := "(IIIZ)I" } : Jvm.MethodName)) ∈ lw_all := lw_g (lw_at lw_m2 151 rfl) rfl
theorem q425 : (Jvm.Cond.selects "RaceFinderModel" ({ cls := "RaceFinderModel", name := "access", desc := "(IIIZ)I" } : Jvm.MethodName) ({ cls := "RaceFinderModel", name := "access", desc := "(IIIZ)I" } : Jvm.MethodName)) ∈ lw_all := lw_g (lw_at lw_m2 152 rfl) rfl
theorem q426 : (Jvm.Cond.code ({ cls := "RaceFinderModel", name := "access", desc := "(IIIZ)I" } : Jvm.MethodName) prog_3_method_15_code (5 : Nat) (Option.some Jvm.ClassFile.FieldType.int)) ∈ lw_all := lw_g (lw_at lw_m2 153 rfl) rfl
theorem q427 : (Jvm.Cond.methodLink "RaceFinderModel" (106 : Nat) ({ cls := "RaceFinderModel", name := "badPlace", desc := "(I)Z" } : Jvm.MethodName)) ∈ lw_all := lw_g (lw_at lw_m2 154 rfl) rfl
theorem q428 : (Jvm.Cond.privateMethod ({ cls := "RaceFinderModel", name := "badPlace", desc := "(I)Z" } : Jvm.MethodName)) ∈ lw_tbl := lw_at lw_m2 155 rfl
theorem q429 : (Jvm.Cond.instanceMethod ({ cls := "RaceFinderModel", name := "badPlace", desc := "(I)Z" } : Jvm.MethodName)) ∈ lw_all := lw_g (lw_at lw_m2 156 rfl) rfl
theorem q430 : (Jvm.Cond.code ({ cls := "RaceFinderModel", name := "badPlace", desc := "(I)Z" } : Jvm.MethodName) prog_3_method_14_code (2 : Nat) (Option.some Jvm.ClassFile.FieldType.boolean)) ∈ lw_all := lw_g (lw_at lw_m2 157 rfl) rfl
theorem q432 : (Jvm.Cond.instanceMethod ({ cls := "RaceFinderModel", name := "pointsTo", desc := "(I)I" } : Jvm.MethodName)) ∈ lw_all := lw_g (lw_at lw_m2 159 rfl) rfl
theorem q433 : (Jvm.Cond.selects "RaceFinderModel" ({ cls := "RaceFinderModel", name := "pointsTo", desc := "(I)I" } : Jvm.MethodName) ({ cls := "RaceFinderModel", name := "pointsTo", desc := "(I)I" } : Jvm.MethodName)) ∈ lw_all := lw_g (lw_at lw_m2 160 rfl) rfl
theorem q434 : (Jvm.Cond.code ({ cls := "RaceFinderModel", name := "pointsTo", desc := "(I)I" } : Jvm.MethodName) prog_3_method_16_code (2 : Nat) (Option.some Jvm.ClassFile.FieldType.int)) ∈ lw_all := lw_g (lw_at lw_m2 161 rfl) rfl
theorem q436 : (Jvm.Cond.instanceMethod ({ cls := "RaceFinderModel", name := "holds", desc := "(II)I" } : Jvm.MethodName)) ∈ lw_all := lw_g (lw_at lw_m2 163 rfl) rfl
theorem q437 : (Jvm.Cond.selects "RaceFinderModel" ({ cls := "RaceFinderModel", name := "holds", desc := "(II)I" } : Jvm.MethodName) ({ cls := "RaceFinderModel", name := "holds", desc := "(II)I" } : Jvm.MethodName)) ∈ lw_all := lw_g (lw_at lw_m2 164 rfl) rfl
theorem q438 : (Jvm.Cond.code ({ cls := "RaceFinderModel", name := "holds", desc := "(II)I" } : Jvm.MethodName) prog_3_method_17_code (3 : Nat) (Option.some Jvm.ClassFile.FieldType.int)) ∈ lw_all := lw_g (lw_at lw_m2 165 rfl) rfl
theorem q440 : (Jvm.Cond.instanceMethod ({ cls := "RaceFinderModel", name := "race", desc := "(II)Z" } : Jvm.MethodName)) ∈ lw_all := lw_g (lw_at lw_m2 167 rfl) rfl
theorem q441 : (Jvm.Cond.selects "RaceFinderModel" ({ cls := "RaceFinderModel", name := "race", desc := "(II)Z" } : Jvm.MethodName) ({ cls := "RaceFinderModel", name := "race", desc := "(II)Z" } : Jvm.MethodName)) ∈ lw_all := lw_g (lw_at lw_m2 168 rfl) rfl
theorem q442 : (Jvm.Cond.code ({ cls := "RaceFinderModel", name := "race", desc := "(II)Z" } : Jvm.MethodName) prog_3_method_19_code (3 : Nat) (Option.some Jvm.ClassFile.FieldType.boolean)) ∈ lw_all := lw_g (lw_at lw_m2 169 rfl) rfl
theorem q443 : (Jvm.Cond.methodLink "RaceFinderModel" (112 : Nat) ({ cls := "RaceFinderModel", name := "threadAt", desc := "(I)I" } : Jvm.MethodName)) ∈ lw_all := lw_g (lw_at lw_m2 170 rfl) rfl
theorem q444 : (Jvm.Cond.privateMethod ({ cls := "RaceFinderModel", name := "threadAt", desc := "(I)I" } : Jvm.MethodName)) ∈ lw_tbl := lw_at lw_m2 171 rfl
theorem q445 : (Jvm.Cond.instanceMethod ({ cls := "RaceFinderModel", name := "threadAt", desc := "(I)I" } : Jvm.MethodName)) ∈ lw_all := lw_g (lw_at lw_m2 172 rfl) rfl
theorem q446 : (Jvm.Cond.code ({ cls := "RaceFinderModel", name := "threadAt", desc := "(I)I" } : Jvm.MethodName) prog_3_method_18_code (2 : Nat) (Option.some Jvm.ClassFile.FieldType.int)) ∈ lw_all := lw_g (lw_at lw_m2 173 rfl) rfl
theorem q447 : (Jvm.Cond.methodLink "RaceFinderModel" (115 : Nat) ({ cls := "RaceFinderModel", name := "held", desc := "(I)I" } : Jvm.MethodName)) ∈ lw_all := lw_g (lw_at lw_m2 174 rfl) rfl
theorem q448 : (Jvm.Cond.instanceMethod ({ cls := "RaceFinderModel", name := "held", desc := "(I)I" } : Jvm.MethodName)) ∈ lw_all := lw_g (lw_at lw_m2 175 rfl) rfl
theorem q449 : (Jvm.Cond.selects "RaceFinderModel" ({ cls := "RaceFinderModel", name := "held", desc := "(I)I" } : Jvm.MethodName) ({ cls := "RaceFinderModel", name := "held", desc := "(I)I" } : Jvm.MethodName)) ∈ lw_all := lw_g (lw_at lw_m2 176 rfl) rfl
theorem q450 : (Jvm.Cond.code ({ cls := "RaceFinderModel", name := "held", desc := "(I)I" } : Jvm.MethodName) prog_3_method_21_code (6 : Nat) (Option.some Jvm.ClassFile.FieldType.int)) ∈ lw_all := lw_g (lw_at lw_m2 177 rfl) rfl
theorem q452 : (Jvm.Cond.instanceMethod ({ cls := "RaceFinderModel", name := "races", desc := "()I" } : Jvm.MethodName)) ∈ lw_all := lw_g (lw_at lw_m2 179 rfl) rfl
theorem q453 : (Jvm.Cond.selects "RaceFinderModel" ({ cls := "RaceFinderModel", name := "races", desc := "()I" } : Jvm.MethodName) ({ cls := "RaceFinderModel", name := "races", desc := "()I" } : Jvm.MethodName)) ∈ lw_all := lw_g (lw_at lw_m2 180 rfl) rfl
theorem q454 : (Jvm.Cond.code ({ cls := "RaceFinderModel", name := "races", desc := "()I" } : Jvm.MethodName) prog_3_method_20_code (4 : Nat) (Option.some Jvm.ClassFile.FieldType.int)) ∈ lw_all := lw_g (lw_at lw_m2 181 rfl) rfl
theorem q455 : (Jvm.Cond.methodLink "RaceFinderModel" (118 : Nat) ({ cls := "RaceFinderModel", name := "race", desc := "(II)Z" } : Jvm.MethodName)) ∈ lw_all := lw_g (lw_at lw_m2 182 rfl) rfl
theorem q458 : (Jvm.Cond.instanceMethod ({ cls := "RaceFinderModel", name := "danger", desc := "()I" } : Jvm.MethodName)) ∈ lw_all := lw_g (lw_at lw_m2 185 rfl) rfl
theorem q459 : (Jvm.Cond.selects "RaceFinderModel" ({ cls := "RaceFinderModel", name := "danger", desc := "()I" } : Jvm.MethodName) ({ cls := "RaceFinderModel", name := "danger", desc := "()I" } : Jvm.MethodName)) ∈ lw_all := lw_g (lw_at lw_m2 186 rfl) rfl
theorem q460 : (Jvm.Cond.code ({ cls := "RaceFinderModel", name := "danger", desc := "()I" } : Jvm.MethodName) prog_3_method_27_code (3 : Nat) (Option.some Jvm.ClassFile.FieldType.int)) ∈ lw_all := lw_g (lw_at lw_m2 187 rfl) rfl
theorem q461 : (Jvm.Cond.methodLink "RaceFinderModel" (129 : Nat) ({ cls := "RaceFinderModel", name := "allSteps", desc := "()V" } : Jvm.MethodName)) ∈ lw_all := lw_g (lw_at lw_m2 188 rfl) rfl
theorem q462 : (Jvm.Cond.privateMethod ({ cls := "RaceFinderModel", name := "allSteps", desc := "()V" } : Jvm.MethodName)) ∈ lw_tbl := lw_at lw_m2 189 rfl
theorem q463 : (Jvm.Cond.instanceMethod ({ cls := "RaceFinderModel", name := "allSteps", desc := "()V" } : Jvm.MethodName)) ∈ lw_all := lw_g (lw_at lw_m2 190 rfl) rfl
theorem q464 : (Jvm.Cond.code ({ cls := "RaceFinderModel", name := "allSteps", desc := "()V" } : Jvm.MethodName) prog_3_method_23_code (4 : Nat) (Option.none : Option Jvm.ClassFile.FieldType)) ∈ lw_all := lw_g (lw_at lw_m2 191 rfl) rfl
theorem q465 : (Jvm.Cond.methodLink "RaceFinderModel" (122 : Nat) ({ cls := "RaceFinderModel", name := "step", desc := "(III)V" } : Jvm.MethodName)) ∈ lw_all := lw_g (lw_at lw_m2 192 rfl) rfl
theorem q466 : (Jvm.Cond.privateMethod ({ cls := "RaceFinderModel", name := "step", desc := "(III)V" } : Jvm.MethodName)) ∈ lw_tbl := lw_at lw_m2 193 rfl
theorem q467 : (Jvm.Cond.instanceMethod ({ cls := "RaceFinderModel", name := "step", desc := "(III)V" } : Jvm.MethodName)) ∈ lw_all := lw_g (lw_at lw_m2 194 rfl) rfl
theorem q468 : (Jvm.Cond.code ({ cls := "RaceFinderModel", name := "step", desc := "(III)V" } : Jvm.MethodName) prog_3_method_22_code (6 : Nat) (Option.none : Option Jvm.ClassFile.FieldType)) ∈ lw_all := lw_g (lw_at lw_m2 195 rfl) rfl
theorem q469 : (Jvm.Cond.methodLink "RaceFinderModel" (132 : Nat) ({ cls := "RaceFinderModel", name := "allWays", desc := "()V" } : Jvm.MethodName)) ∈ lw_all := lw_g (lw_at lw_m2 196 rfl) rfl
theorem q470 : (Jvm.Cond.privateMethod ({ cls := "RaceFinderModel", name := "allWays", desc := "()V" } : Jvm.MethodName)) ∈ lw_tbl := lw_at lw_m2 197 rfl
theorem q471 : (Jvm.Cond.instanceMethod ({ cls := "RaceFinderModel", name := "allWays", desc := "()V" } : Jvm.MethodName)) ∈ lw_all := lw_g (lw_at lw_m2 198 rfl) rfl
theorem q472 : (Jvm.Cond.code ({ cls := "RaceFinderModel", name := "allWays", desc := "()V" } : Jvm.MethodName) prog_3_method_24_code (3 : Nat) (Option.none : Option Jvm.ClassFile.FieldType)) ∈ lw_all := lw_g (lw_at lw_m2 199 rfl) rfl
theorem q473 : (Jvm.Cond.methodLink "RaceFinderModel" (126 : Nat) ({ cls := "RaceFinderModel", name := "beyond", desc := "(I)I" } : Jvm.MethodName)) ∈ lw_all := lw_g (lw_at lw_m2 200 rfl) rfl
theorem q474 : (Jvm.Cond.privateMethod ({ cls := "RaceFinderModel", name := "beyond", desc := "(I)I" } : Jvm.MethodName)) ∈ lw_tbl := lw_at lw_m2 201 rfl
theorem q475 : (Jvm.Cond.instanceMethod ({ cls := "RaceFinderModel", name := "beyond", desc := "(I)I" } : Jvm.MethodName)) ∈ lw_all := lw_g (lw_at lw_m2 202 rfl) rfl
theorem q476 : (Jvm.Cond.code ({ cls := "RaceFinderModel", name := "beyond", desc := "(I)I" } : Jvm.MethodName) prog_3_method_25_code (4 : Nat) (Option.some Jvm.ClassFile.FieldType.int)) ∈ lw_all := lw_g (lw_at lw_m2 203 rfl) rfl
theorem q477 : (Jvm.Cond.methodLink "RaceFinderModel" (135 : Nat) ({ cls := "RaceFinderModel", name := "threadsAround", desc := "(I)I" } : Jvm.MethodName)) ∈ lw_all := lw_g (lw_at lw_m2 204 rfl) rfl
theorem q478 : (Jvm.Cond.privateMethod ({ cls := "RaceFinderModel", name := "threadsAround", desc := "(I)I" } : Jvm.MethodName)) ∈ lw_tbl := lw_at lw_m2 205 rfl
theorem q479 : (Jvm.Cond.instanceMethod ({ cls := "RaceFinderModel", name := "threadsAround", desc := "(I)I" } : Jvm.MethodName)) ∈ lw_all := lw_g (lw_at lw_m2 206 rfl) rfl
theorem q480 : (Jvm.Cond.code ({ cls := "RaceFinderModel", name := "threadsAround", desc := "(I)I" } : Jvm.MethodName) prog_3_method_26_code (6 : Nat) (Option.some Jvm.ClassFile.FieldType.int)) ∈ lw_all := lw_g (lw_at lw_m2 207 rfl) rfl
theorem in_X1 : ∀ w ∈ wsX10, w ∈ lw_all := lw_in wsX10 [324, 326, 328, 330, 332, 334, 336, 338, 340, 342, 344, 346, 348, 350, 352, 354, 356, 358, 360, 362, 364, 366, 368, 370, 372] (by decide +kernel) (by decide +kernel)
/-! java/lang/Object -/
def RJ0 : String := "java/lang/Object"
abbrev cJ0_init : ByteArray := object_method_1_code
def yJ0_init : MethodName := ⟨RJ0, "<init>", "()V"⟩
theorem q42 : (Jvm.Cond.instanceMethod ({ cls := "java/lang/Object", name := "<init>", desc := "()V" } : Jvm.MethodName)) ∈ lw_all := lw_g (lw_at lw_m1 9 rfl) rfl
theorem q43 : (Jvm.Cond.code ({ cls := "java/lang/Object", name := "<init>", desc := "()V" } : Jvm.MethodName) object_method_1_code (1 : Nat) (Option.none : Option Jvm.ClassFile.FieldType)) ∈ lw_all := lw_g (lw_at lw_m1 10 rfl) rfl
theorem q33 : (Jvm.Cond.initialized "RaceFinderLaw") ∈ lw_all := lw_g (lw_at lw_m1 0 rfl) rfl
theorem q36 : (Jvm.Cond.classLink "RaceFinderLaw" (7 : Nat) "RaceFinder") ∈ lw_all := lw_g (lw_at lw_m1 3 rfl) rfl
theorem q38 : (Jvm.Cond.methodLink "RaceFinderLaw" (9 : Nat) ({ cls := "RaceFinder", name := "<init>", desc := "()V" } : Jvm.MethodName)) ∈ lw_all := lw_g (lw_at lw_m1 5 rfl) rfl
theorem q146 : (Jvm.Cond.methodLink "RaceFinderLaw" (13 : Nat) ({ cls := "RaceFinder", name := "alloc", desc := "(II)I" } : Jvm.MethodName)) ∈ lw_all := lw_g (lw_at lw_m1 113 rfl) rfl
theorem q206 : (Jvm.Cond.methodLink "RaceFinderLaw" (18 : Nat) ({ cls := "RaceFinder", name := "copy", desc := "(II)I" } : Jvm.MethodName)) ∈ lw_all := lw_g (lw_at lw_m1 173 rfl) rfl
theorem q210 : (Jvm.Cond.methodLink "RaceFinderLaw" (22 : Nat) ({ cls := "RaceFinder", name := "load", desc := "(III)I" } : Jvm.MethodName)) ∈ lw_all := lw_g (lw_at lw_m1 177 rfl) rfl
theorem q217 : (Jvm.Cond.methodLink "RaceFinderLaw" (27 : Nat) ({ cls := "RaceFinder", name := "store", desc := "(III)I" } : Jvm.MethodName)) ∈ lw_all := lw_g (lw_at lw_m1 184 rfl) rfl
theorem q221 : (Jvm.Cond.methodLink "RaceFinderLaw" (31 : Nat) ({ cls := "RaceFinder", name := "once", desc := "(IZ)I" } : Jvm.MethodName)) ∈ lw_all := lw_g (lw_at lw_m1 188 rfl) rfl
theorem q225 : (Jvm.Cond.methodLink "RaceFinderLaw" (36 : Nat) ({ cls := "RaceFinder", name := "region", desc := "(III)I" } : Jvm.MethodName)) ∈ lw_all := lw_g (lw_at lw_m1 192 rfl) rfl
theorem q229 : (Jvm.Cond.methodLink "RaceFinderLaw" (40 : Nat) ({ cls := "RaceFinder", name := "access", desc := "(IIIZ)I" } : Jvm.MethodName)) ∈ lw_all := lw_g (lw_at lw_m1 196 rfl) rfl
theorem q237 : (Jvm.Cond.methodLink "RaceFinderLaw" (45 : Nat) ({ cls := "RaceFinder", name := "pointsTo", desc := "(I)I" } : Jvm.MethodName)) ∈ lw_all := lw_g (lw_at lw_m1 204 rfl) rfl
theorem q241 : (Jvm.Cond.methodLink "RaceFinderLaw" (50 : Nat) ({ cls := "RaceFinder", name := "holds", desc := "(II)I" } : Jvm.MethodName)) ∈ lw_all := lw_g (lw_at lw_m1 208 rfl) rfl
theorem q245 : (Jvm.Cond.methodLink "RaceFinderLaw" (54 : Nat) ({ cls := "RaceFinder", name := "race", desc := "(II)Z" } : Jvm.MethodName)) ∈ lw_all := lw_g (lw_at lw_m1 212 rfl) rfl
theorem q261 : (Jvm.Cond.methodLink "RaceFinderLaw" (59 : Nat) ({ cls := "RaceFinder", name := "races", desc := "()I" } : Jvm.MethodName)) ∈ lw_all := lw_g (lw_at lw_m1 228 rfl) rfl
theorem q265 : (Jvm.Cond.methodLink "RaceFinderLaw" (64 : Nat) ({ cls := "RaceFinder", name := "held", desc := "(I)I" } : Jvm.MethodName)) ∈ lw_all := lw_g (lw_at lw_m1 232 rfl) rfl
theorem q269 : (Jvm.Cond.methodLink "RaceFinderLaw" (68 : Nat) ({ cls := "RaceFinder", name := "danger", desc := "()I" } : Jvm.MethodName)) ∈ lw_all := lw_g (lw_at lw_m1 236 rfl) rfl
theorem q293 : (Jvm.Cond.classLink "RaceFinderLaw" (10 : Nat) "RaceFinderModel") ∈ lw_all := lw_g (lw_at lw_m2 20 rfl) rfl
theorem q295 : (Jvm.Cond.methodLink "RaceFinderLaw" (12 : Nat) ({ cls := "RaceFinderModel", name := "<init>", desc := "()V" } : Jvm.MethodName)) ∈ lw_all := lw_g (lw_at lw_m2 22 rfl) rfl
theorem q375 : (Jvm.Cond.methodLink "RaceFinderLaw" (17 : Nat) ({ cls := "RaceFinderModel", name := "alloc", desc := "(II)I" } : Jvm.MethodName)) ∈ lw_all := lw_g (lw_at lw_m2 102 rfl) rfl
theorem q399 : (Jvm.Cond.methodLink "RaceFinderLaw" (21 : Nat) ({ cls := "RaceFinderModel", name := "copy", desc := "(II)I" } : Jvm.MethodName)) ∈ lw_all := lw_g (lw_at lw_m2 126 rfl) rfl
theorem q403 : (Jvm.Cond.methodLink "RaceFinderLaw" (26 : Nat) ({ cls := "RaceFinderModel", name := "load", desc := "(III)I" } : Jvm.MethodName)) ∈ lw_all := lw_g (lw_at lw_m2 130 rfl) rfl
theorem q411 : (Jvm.Cond.methodLink "RaceFinderLaw" (30 : Nat) ({ cls := "RaceFinderModel", name := "store", desc := "(III)I" } : Jvm.MethodName)) ∈ lw_all := lw_g (lw_at lw_m2 138 rfl) rfl
theorem q415 : (Jvm.Cond.methodLink "RaceFinderLaw" (35 : Nat) ({ cls := "RaceFinderModel", name := "once", desc := "(IZ)I" } : Jvm.MethodName)) ∈ lw_all := lw_g (lw_at lw_m2 142 rfl) rfl
theorem q419 : (Jvm.Cond.methodLink "RaceFinderLaw" (39 : Nat) ({ cls := "RaceFinderModel", name := "region", desc := "(III)I" } : Jvm.MethodName)) ∈ lw_all := lw_g (lw_at lw_m2 146 rfl) rfl
theorem q423 : (Jvm.Cond.methodLink "RaceFinderLaw" (44 : Nat) ({ cls := "RaceFinderModel", name := "access", desc := "(IIIZ)I" } : Jvm.MethodName)) ∈ lw_all := lw_g (lw_at lw_m2 150 rfl) rfl
theorem q431 : (Jvm.Cond.methodLink "RaceFinderLaw" (49 : Nat) ({ cls := "RaceFinderModel", name := "pointsTo", desc := "(I)I" } : Jvm.MethodName)) ∈ lw_all := lw_g (lw_at lw_m2 158 rfl) rfl
theorem q435 : (Jvm.Cond.methodLink "RaceFinderLaw" (53 : Nat) ({ cls := "RaceFinderModel", name := "holds", desc := "(II)I" } : Jvm.MethodName)) ∈ lw_all := lw_g (lw_at lw_m2 162 rfl) rfl
theorem q439 : (Jvm.Cond.methodLink "RaceFinderLaw" (58 : Nat) ({ cls := "RaceFinderModel", name := "race", desc := "(II)Z" } : Jvm.MethodName)) ∈ lw_all := lw_g (lw_at lw_m2 166 rfl) rfl
theorem q451 : (Jvm.Cond.methodLink "RaceFinderLaw" (63 : Nat) ({ cls := "RaceFinderModel", name := "races", desc := "()I" } : Jvm.MethodName)) ∈ lw_all := lw_g (lw_at lw_m2 178 rfl) rfl
theorem q456 : (Jvm.Cond.methodLink "RaceFinderLaw" (67 : Nat) ({ cls := "RaceFinderModel", name := "held", desc := "(I)I" } : Jvm.MethodName)) ∈ lw_all := lw_g (lw_at lw_m2 183 rfl) rfl
theorem q457 : (Jvm.Cond.methodLink "RaceFinderLaw" (71 : Nat) ({ cls := "RaceFinderModel", name := "danger", desc := "()I" } : Jvm.MethodName)) ∈ lw_all := lw_g (lw_at lw_m2 184 rfl) rfl
theorem q144 : (Jvm.Cond.arrayClass Jvm.ClassFile.FieldType.int) ∈ lw_all := lw_g (lw_at lw_m1 111 rfl) rfl
theorem q145 : (Jvm.Cond.arrayClass Jvm.ClassFile.FieldType.boolean) ∈ lw_all := lw_g (lw_at lw_m1 112 rfl) rfl
abbrev vwCl : List vw_C := [(RX0, TX0, 33), (RX1, TX1, 25)]
end
section
/-! rows of kit/laws/ (BITS, COUNTS, NUMBERS): starting texts -/
/-! ===== Int32 by its bits: bt x i ===== -/
def bt (x : Int32) (i : Nat) : Bool := x.toBitVec.getLsbD i
theorem b_ext {x y : Int32} (h : ∀ i, i < 32 → bt x i = bt y i) : x = y := Int32.toBitVec_inj.mp (BitVec.eq_of_getLsbD_eq (fun i hi => h i hi))
theorem b_or (x y : Int32) (i : Nat) : bt (x ||| y) i = (bt x i || bt y i) := by unfold bt; rw [Int32.toBitVec_or, BitVec.getLsbD_or]
theorem b_and (x y : Int32) (i : Nat) : bt (x &&& y) i = (bt x i && bt y i) := by unfold bt; rw [Int32.toBitVec_and, BitVec.getLsbD_and]
theorem b_xor (x y : Int32) (i : Nat) : bt (x ^^^ y) i = (bt x i ^^ bt y i) := by unfold bt; rw [Int32.toBitVec_xor, BitVec.getLsbD_xor]
theorem b_big {x : Int32} {i : Nat} (h : 32 ≤ i) : bt x i = false := BitVec.getLsbD_of_ge _ _ h
theorem b_255 (i : Nat) : bt 255 i = decide (i < 8) := by
  rcases Nat.lt_or_ge i 32 with h | h
  · exact (by decide +kernel : ∀ i, i < 32 → bt 255 i = decide (i < 8)) i h
  · rw [b_big h, decide_eq_false (by omega)]
theorem b_65535 (i : Nat) : bt 65535 i = decide (i < 16) := by
  rcases Nat.lt_or_ge i 32 with h | h
  · exact (by decide +kernel : ∀ i, i < 32 → bt 65535 i = decide (i < 16)) i h
  · rw [b_big h, decide_eq_false (by omega)]
theorem b_m1 : ∀ i, i < 32 → bt (-1) i = true := by decide +kernel
theorem b_0 (i : Nat) : bt 0 i = false := BitVec.getLsbD_zero
theorem s_l : ∀ n, n < 32 → ((nI n &&& 31).toBitVec.smod 32).toNat = n := by decide +kernel
theorem s_u : ∀ n, n < 32 → (((nI n).toUInt32 &&& Int32.toUInt32 31).toBitVec % 32).toNat = n := by decide +kernel
theorem b_shl (n : Nat) (hn : n < 32) (x : Int32) {i : Nat} (hi : i < 32) : bt (x <<< (nI n &&& 31)) i = (decide (n ≤ i) && bt x (i - n)) := by
  unfold bt
  rw [Int32.toBitVec_shiftLeft]
  show (x.toBitVec <<< ((nI n &&& 31).toBitVec.smod 32).toNat).getLsbD i = _
  rw [s_l n hn, BitVec.getLsbD_shiftLeft]
  rcases Nat.lt_or_ge i n with h | h
  · simp [h, Nat.not_le.mpr h]
  · simp [hi, h, Nat.not_lt.mpr h]
theorem b_ushr (n : Nat) (hn : n < 32) (x : Int32) (i : Nat) : bt ((x.toUInt32 >>> ((nI n).toUInt32 &&& Int32.toUInt32 31)).toInt32) i = bt x (n + i) := by
  show (x.toUInt32 >>> ((nI n).toUInt32 &&& Int32.toUInt32 31)).toBitVec.getLsbD i = x.toUInt32.toBitVec.getLsbD (n + i)
  rw [UInt32.toBitVec_shiftRight]
  show (x.toUInt32.toBitVec >>> (((nI n).toUInt32 &&& Int32.toUInt32 31).toBitVec % 32).toNat).getLsbD i = _
  rw [s_u n hn, BitVec.getLsbD_ushiftRight]
theorem b_sshr (n : Nat) (hn : n < 32) (x : Int32) {i : Nat} (hi : i < 32) : bt (x >>> (nI n &&& 31)) i = if n + i < 32 then bt x (n + i) else bt x 31 := by
  unfold bt
  rw [Int32.toBitVec_shiftRight]
  show (x.toBitVec.sshiftRight ((nI n &&& 31).toBitVec.smod 32).toNat).getLsbD i = _
  rw [s_l n hn, BitVec.getLsbD_sshiftRight, BitVec.msb_eq_getLsbD_last]
  simp [hi]
theorem b_shl8 (x : Int32) {i : Nat} (hi : i < 32) : bt (x <<< ((8 : Int32) &&& 31)) i = (decide (8 ≤ i) && bt x (i - 8)) := b_shl 8 (by omega) x hi
theorem b_shl16 (x : Int32) {i : Nat} (hi : i < 32) : bt (x <<< ((16 : Int32) &&& 31)) i = (decide (16 ≤ i) && bt x (i - 16)) := b_shl 16 (by omega) x hi
theorem b_shl24 (x : Int32) {i : Nat} (hi : i < 32) : bt (x <<< ((24 : Int32) &&& 31)) i = (decide (24 ≤ i) && bt x (i - 24)) := b_shl 24 (by omega) x hi
theorem b_sshr8 (x : Int32) {i : Nat} (hi : i < 32) : bt (x >>> ((8 : Int32) &&& 31)) i = if 8 + i < 32 then bt x (8 + i) else bt x 31 := b_sshr 8 (by omega) x hi
/-! ===== drawers: more things than places ===== -/
theorem fb_holes : ∀ (m n : Nat) (f : Nat → Nat), (∀ i, i < n → f i < m) → (∀ i j, i < j → j < n → f i ≠ f j) → n ≤ m := by
  intro m
  induction m with
  | zero =>
    intro n f h1 _
    rcases Nat.eq_zero_or_pos n with h | h
    · omega
    · exact absurd (h1 0 h) (Nat.not_lt_zero _)
  | succ m ih =>
    intro n f h1 h2
    by_cases hx : ∃ i, i < n ∧ f i = m
    · obtain ⟨a, ha, hfa⟩ := hx
      have hg := ih (n - 1) (fun i => if i < a then f i else f (i + 1)) (by
        intro i hi
        by_cases q : i < a
        · simp only [if_pos q]
          have b1 := h1 i (by omega)
          have b2 := h2 i a q ha
          omega
        · simp only [if_neg q]
          have b1 := h1 (i + 1) (by omega)
          have b2 := h2 a (i + 1) (by omega) (by omega)
          omega) (by
        intro i j hij hj
        by_cases q : i < a
        · by_cases r : j < a
          · simp only [if_pos q, if_pos r]
            exact h2 i j hij (by omega)
          · simp only [if_pos q, if_neg r]
            exact h2 i (j + 1) (by omega) (by omega)
        · have r : ¬ j < a := by omega
          simp only [if_neg q, if_neg r]
          exact h2 (i + 1) (j + 1) (by omega) (by omega))
      omega
    · have hg := ih n f (fun i hi => by
        have b1 := h1 i hi
        have b2 : f i ≠ m := fun e => hx ⟨i, hi, e⟩
        omega) h2
      omega
/-- two of them in one place -/
theorem fb_twice {m n : Nat} {f : Nat → Nat} (h : ∀ i, i < n → f i < m) (hm : m < n) : ∃ i j, i < j ∧ j < n ∧ f i = f j := by
  refine Classical.byContradiction fun hx => ?_
  have := fb_holes m n f h (fun i j hij hj e => hx ⟨i, j, hij, hj, e⟩)
  omega
/-- as many as places, none twice: each place is taken -/
theorem fb_onto {n : Nat} {f : Nat → Nat} (h : ∀ i, i < n → f i < n) (h2 : ∀ i j, i < j → j < n → f i ≠ f j) {y : Nat} (hy : y < n) : ∃ i, i < n ∧ f i = y := by
  refine Classical.byContradiction fun hx => ?_
  have hne : ∀ i, i < n → f i ≠ y := fun i hi e => hx ⟨i, hi, e⟩
  have := fb_holes (n - 1) n (fun i => if f i < y then f i else f i - 1) (by
    intro i hi
    have b1 := h i hi
    have b2 := hne i hi
    by_cases q : f i < y
    · simp only [if_pos q]; omega
    · simp only [if_neg q]; omega) (by
    intro i j hij hj
    have b1 := hne i (by omega)
    have b2 := hne j hj
    have b3 := h2 i j hij hj
    by_cases q : f i < y
    · by_cases r : f j < y
      · simp only [if_pos q, if_pos r]; exact b3
      · simp only [if_pos q, if_neg r]; omega
    · by_cases r : f j < y
      · simp only [if_neg q, if_pos r]; omega
      · simp only [if_neg q, if_neg r]; omega)
  omega
/-! ===== how many places have a property ===== -/
def fb_ct (p : Nat → Bool) : Nat → Nat
  | 0 => 0
  | n + 1 => fb_ct p n + (if p n then 1 else 0)
theorem fb_ct_succ (p : Nat → Bool) (n : Nat) : fb_ct p (n + 1) = fb_ct p n + (if p n then 1 else 0) := rfl
theorem fb_ct_le (p : Nat → Bool) : ∀ n, fb_ct p n ≤ n
  | 0 => Nat.le_refl _
  | n + 1 => by
    have h := fb_ct_le p n
    rw [fb_ct_succ]
    split <;> omega
theorem fb_ct_step (p : Nat → Bool) (m : Nat) : ∀ n, fb_ct p m ≤ fb_ct p (m + n)
  | 0 => Nat.le_refl _
  | n + 1 => by
    have h := fb_ct_step p m n
    show fb_ct p m ≤ fb_ct p (m + n + 1)
    rw [fb_ct_succ]
    omega
theorem fb_ct_mono (p : Nat → Bool) {m n : Nat} (h : m ≤ n) : fb_ct p m ≤ fb_ct p n := by
  have := fb_ct_step p m (n - m)
  rwa [Nat.add_sub_cancel' h] at this
theorem fb_ct_cong {p q : Nat → Bool} : ∀ {n : Nat}, (∀ k, k < n → p k = q k) → fb_ct p n = fb_ct q n
  | 0, _ => rfl
  | n + 1, h => by
    rw [fb_ct_succ, fb_ct_succ, fb_ct_cong (fun k hk => h k (by omega)), h n (by omega)]
/-- one place changed -/
theorem fb_ct_out (p : Nat → Bool) (b : Bool) {i n : Nat} (h : n ≤ i) : fb_ct (fun k => if k = i then b else p k) n = fb_ct p n :=
  fb_ct_cong fun k hk => if_neg (by omega)
theorem fb_ct_upd (p : Nat → Bool) (b : Bool) {i : Nat} : ∀ {n : Nat}, i < n → fb_ct (fun k => if k = i then b else p k) n + (if p i then 1 else 0) = fb_ct p n + (if b then 1 else 0)
  | 0, h => absurd h (Nat.not_lt_zero i)
  | n + 1, h => by
    rw [fb_ct_succ, fb_ct_succ]
    rcases Nat.lt_or_ge i n with q | q
    · have := fb_ct_upd p b q
      have e : (if n = i then b else p n) = p n := if_neg (by omega)
      rw [e]
      omega
    · have e : i = n := by omega
      subst e
      rw [fb_ct_out p b (Nat.le_refl _)]
      simp only [if_true]
      omega
theorem fb_ct_sub {p q : Nat → Bool} : ∀ {n : Nat}, (∀ k, k < n → p k = true → q k = true) → fb_ct p n ≤ fb_ct q n
  | 0, _ => Nat.le_refl _
  | n + 1, h => by
    have h1 := fb_ct_sub (n := n) (p := p) (q := q) (fun k hk => h k (by omega))
    have h2 := h n (by omega)
    rw [fb_ct_succ, fb_ct_succ]
    cases hp : p n <;> cases hq : q n <;> simp_all <;> omega
theorem fb_ct_or {p q : Nat → Bool} : ∀ {n : Nat}, (∀ k, k < n → ¬ (p k = true ∧ q k = true)) → fb_ct (fun k => p k || q k) n = fb_ct p n + fb_ct q n
  | 0, _ => rfl
  | n + 1, h => by
    have h1 := fb_ct_or (n := n) (p := p) (q := q) (fun k hk => h k (by omega))
    have h2 := h n (by omega)
    rw [fb_ct_succ, fb_ct_succ, fb_ct_succ, h1]
    cases hp : p n <;> cases hq : q n <;> simp_all <;> omega
theorem fb_ct_not (p : Nat → Bool) : ∀ n, fb_ct p n + fb_ct (fun k => !p k) n = n
  | 0 => rfl
  | n + 1 => by
    have h := fb_ct_not p n
    rw [fb_ct_succ, fb_ct_succ]
    cases p n <;> simp <;> omega
theorem fb_ct_split (p : Nat → Bool) (m : Nat) : ∀ n, fb_ct p (m + n) = fb_ct p m + fb_ct (fun k => p (m + k)) n
  | 0 => rfl
  | n + 1 => by
    have h := fb_ct_split p m n
    show fb_ct p (m + n + 1) = _
    rw [fb_ct_succ, fb_ct_succ, h, Nat.add_assoc]
theorem fb_ct_zero {p : Nat → Bool} : ∀ {n : Nat}, fb_ct p n = 0 ↔ ∀ k, k < n → p k = false
  | 0 => ⟨fun _ k hk => absurd hk (Nat.not_lt_zero k), fun _ => rfl⟩
  | n + 1 => by
    have h := fb_ct_zero (p := p) (n := n)
    rw [fb_ct_succ]
    constructor
    · intro e k hk
      have e1 : fb_ct p n = 0 := by omega
      rcases Nat.lt_or_ge k n with q | q
      · exact h.mp e1 k q
      · have ek : k = n := by omega
        subst ek
        cases hp : p k
        · rfl
        · simp [hp] at e
    · intro a
      rw [h.mpr (fun k hk => a k (by omega)), a n (by omega)]
      rfl
theorem fb_ct_pos {p : Nat → Bool} {n : Nat} : 0 < fb_ct p n ↔ ∃ k, k < n ∧ p k = true := by
  constructor
  · intro h
    refine Classical.byContradiction fun hx => ?_
    have := fb_ct_zero.mpr (fun k hk => by
      cases hp : p k
      · rfl
      · exact absurd ⟨k, hk, hp⟩ hx : ∀ k, k < n → p k = false)
    omega
  · rintro ⟨k, hk, hp⟩
    rcases Nat.eq_zero_or_pos (fb_ct p n) with e | e
    · have := fb_ct_zero.mp e k hk
      rw [this] at hp
      cases hp
    · exact e
theorem fb_ct_all {p : Nat → Bool} {n : Nat} : fb_ct p n = n ↔ ∀ k, k < n → p k = true := by
  have h := fb_ct_not p n
  constructor
  · intro e k hk
    have z : fb_ct (fun k => !p k) n = 0 := by omega
    have := fb_ct_zero.mp z k hk
    cases hp : p k
    · simp [hp] at this
    · rfl
  · intro a
    have z : fb_ct (fun k => !p k) n = 0 := fb_ct_zero.mpr (fun k hk => by simp [a k hk])
    omega
/-- the k-th place with the property -/
theorem fb_ct_kth {p : Nat → Bool} {k : Nat} : ∀ {n : Nat}, k < fb_ct p n → ∃ i, i < n ∧ p i = true ∧ fb_ct p i = k
  | 0, h => absurd h (Nat.not_lt_zero k)
  | n + 1, h => by
    rcases Nat.lt_or_ge k (fb_ct p n) with q | q
    · obtain ⟨i, h1, h2⟩ := fb_ct_kth q
      exact ⟨i, by omega, h2⟩
    · rw [fb_ct_succ] at h
      cases hp : p n
      · simp [hp] at h; omega
      · simp [hp] at h
        exact ⟨n, by omega, hp, by omega⟩
theorem fb_ct_kth_one {p : Nat → Bool} {i j : Nat} (hi : p i = true) (hj : p j = true) (e : fb_ct p i = fb_ct p j) : i = j := by
  have key : ∀ a b : Nat, a < b → p a = true → fb_ct p a < fb_ct p b := by
    intro a b hab ha
    have h := fb_ct_mono p (show a + 1 ≤ b from hab)
    rw [fb_ct_succ, ha] at h
    simp at h
    omega
  rcases Nat.lt_trichotomy i j with q | q | q
  · have := key i j q hi; omega
  · exact q
  · have := key j i q hj; omega
/-! ===== sums over a range: one place changed, parts, bounds ===== -/
def fb_sm (f : Nat → Nat) : Nat → Nat
  | 0 => 0
  | n + 1 => fb_sm f n + f n
theorem fb_sm_succ (f : Nat → Nat) (n : Nat) : fb_sm f (n + 1) = fb_sm f n + f n := rfl
theorem fb_sm_cong {f g : Nat → Nat} : ∀ {n : Nat}, (∀ k, k < n → f k = g k) → fb_sm f n = fb_sm g n
  | 0, _ => rfl
  | n + 1, h => by rw [fb_sm_succ, fb_sm_succ, fb_sm_cong (fun k hk => h k (by omega)), h n (by omega)]
theorem fb_sm_out (f : Nat → Nat) (v : Nat) {i n : Nat} (h : n ≤ i) : fb_sm (fun k => if k = i then v else f k) n = fb_sm f n :=
  fb_sm_cong fun k hk => if_neg (by omega)
theorem fb_sm_upd (f : Nat → Nat) (v : Nat) {i : Nat} : ∀ {n : Nat}, i < n → fb_sm (fun k => if k = i then v else f k) n + f i = fb_sm f n + v
  | 0, h => absurd h (Nat.not_lt_zero i)
  | n + 1, h => by
    rw [fb_sm_succ, fb_sm_succ]
    rcases Nat.lt_or_ge i n with q | q
    · have := fb_sm_upd f v q
      have e : (if n = i then v else f n) = f n := if_neg (by omega)
      rw [e]
      omega
    · have e : i = n := by omega
      subst e
      rw [fb_sm_out f v (Nat.le_refl _)]
      simp only [if_true]
      omega
theorem fb_sm_add (f g : Nat → Nat) : ∀ n, fb_sm (fun k => f k + g k) n = fb_sm f n + fb_sm g n
  | 0 => rfl
  | n + 1 => by
    have h := fb_sm_add f g n
    rw [fb_sm_succ, fb_sm_succ, fb_sm_succ, h]
    omega
theorem fb_sm_le {f g : Nat → Nat} : ∀ {n : Nat}, (∀ k, k < n → f k ≤ g k) → fb_sm f n ≤ fb_sm g n
  | 0, _ => Nat.le_refl _
  | n + 1, h => by
    have h1 := fb_sm_le (n := n) (f := f) (g := g) (fun k hk => h k (by omega))
    have h2 := h n (by omega)
    rw [fb_sm_succ, fb_sm_succ]
    omega
theorem fb_sm_const (c : Nat) : ∀ n, fb_sm (fun _ => c) n = n * c
  | 0 => by rw [Nat.zero_mul]; rfl
  | n + 1 => by rw [fb_sm_succ, fb_sm_const c n, Nat.succ_mul]
theorem fb_sm_bound {f : Nat → Nat} {c n : Nat} (h : ∀ k, k < n → f k ≤ c) : fb_sm f n ≤ n * c := by
  rw [← fb_sm_const c n]
  exact fb_sm_le h
theorem fb_sm_mono (f : Nat → Nat) (m : Nat) : ∀ n, fb_sm f m ≤ fb_sm f (m + n)
  | 0 => Nat.le_refl _
  | n + 1 => by
    have h := fb_sm_mono f m n
    show fb_sm f m ≤ fb_sm f (m + n + 1)
    rw [fb_sm_succ]
    omega
theorem fb_sm_part (f : Nat → Nat) {i n : Nat} (h : i < n) : fb_sm f i + f i ≤ fb_sm f n := by
  have := fb_sm_mono f (i + 1) (n - (i + 1))
  rw [fb_sm_succ, show i + 1 + (n - (i + 1)) = n by omega] at this
  exact this
theorem fb_sm_split (f : Nat → Nat) (m : Nat) : ∀ n, fb_sm f (m + n) = fb_sm f m + fb_sm (fun k => f (m + k)) n
  | 0 => rfl
  | n + 1 => by
    have h := fb_sm_split f m n
    show fb_sm f (m + n + 1) = _
    rw [fb_sm_succ, fb_sm_succ, h, Nat.add_assoc]
theorem fb_sm_zero {f : Nat → Nat} {n : Nat} (h : fb_sm f n = 0) : ∀ k, k < n → f k = 0 := fun k hk => by
  have := fb_sm_part f hk
  omega
/-- the same over whole numbers -/
def fb_si (f : Nat → Int) : Nat → Int
  | 0 => 0
  | n + 1 => fb_si f n + f n
theorem fb_si_succ (f : Nat → Int) (n : Nat) : fb_si f (n + 1) = fb_si f n + f n := rfl
theorem fb_si_cong {f g : Nat → Int} : ∀ {n : Nat}, (∀ k, k < n → f k = g k) → fb_si f n = fb_si g n
  | 0, _ => rfl
  | n + 1, h => by rw [fb_si_succ, fb_si_succ, fb_si_cong (fun k hk => h k (by omega)), h n (by omega)]
theorem fb_si_out (f : Nat → Int) (v : Int) {i n : Nat} (h : n ≤ i) : fb_si (fun k => if k = i then v else f k) n = fb_si f n :=
  fb_si_cong fun k hk => if_neg (by omega)
theorem fb_si_upd (f : Nat → Int) (v : Int) {i : Nat} : ∀ {n : Nat}, i < n → fb_si (fun k => if k = i then v else f k) n = fb_si f n - f i + v
  | 0, h => absurd h (Nat.not_lt_zero i)
  | n + 1, h => by
    rw [fb_si_succ, fb_si_succ]
    rcases Nat.lt_or_ge i n with q | q
    · have := fb_si_upd f v q
      have e : (if n = i then v else f n) = f n := if_neg (by omega)
      rw [e]
      omega
    · have e : i = n := by omega
      subst e
      rw [fb_si_out f v (Nat.le_refl _)]
      simp only [if_true]
      omega
theorem fb_si_add (f g : Nat → Int) : ∀ n, fb_si (fun k => f k + g k) n = fb_si f n + fb_si g n
  | 0 => rfl
  | n + 1 => by
    have h := fb_si_add f g n
    rw [fb_si_succ, fb_si_succ, fb_si_succ, h]
    omega
theorem fb_si_sub (f g : Nat → Int) : ∀ n, fb_si (fun k => f k - g k) n = fb_si f n - fb_si g n
  | 0 => rfl
  | n + 1 => by
    have h := fb_si_sub f g n
    rw [fb_si_succ, fb_si_succ, fb_si_succ, h]
    omega
theorem fb_si_mul (c : Int) (f : Nat → Int) : ∀ n, fb_si (fun k => c * f k) n = c * fb_si f n
  | 0 => (Int.mul_zero c).symm
  | n + 1 => by
    have h := fb_si_mul c f n
    rw [fb_si_succ, fb_si_succ, h, Int.mul_add]
theorem fb_si_split (f : Nat → Int) (m : Nat) : ∀ n, fb_si f (m + n) = fb_si f m + fb_si (fun k => f (m + k)) n
  | 0 => (Int.add_zero _).symm
  | n + 1 => by
    have h := fb_si_split f m n
    show fb_si f (m + n + 1) = _
    rw [fb_si_succ, fb_si_succ, h, Int.add_assoc]
theorem fb_si_nat (f : Nat → Nat) : ∀ n, fb_si (fun k => (f k : Int)) n = (fb_sm f n : Int)
  | 0 => rfl
  | n + 1 => by
    have h := fb_si_nat f n
    rw [fb_si_succ, fb_sm_succ, h]
    omega
theorem fb_si_bound {f : Nat → Int} {c : Int} (hc : 0 ≤ c) : ∀ {n : Nat}, (∀ k, k < n → -c ≤ f k ∧ f k ≤ c) → -(n * c) ≤ fb_si f n ∧ fb_si f n ≤ n * c
  | 0, _ => by simp [fb_si]
  | n + 1, h => by
    have h1 := fb_si_bound (n := n) (f := f) hc (fun k hk => h k (by omega))
    have h2 := h n (by omega)
    have e : ((n + 1 : Nat) : Int) * c = n * c + c := by rw [Int.natCast_add, Int.add_mul]; simp
    rw [fb_si_succ, e]
    omega
/-! ===== signed ints as whole numbers, within bounds ===== -/
theorem fb_rng (x : Int32) : -2147483648 ≤ x.toInt ∧ x.toInt < 2147483648 := by
  have h1 := Int32.le_toInt x
  have h2 := Int32.toInt_lt x
  omega
theorem fb_bmod {z : Int} (h1 : -2147483648 ≤ z) (h2 : z < 2147483648) : z.bmod (2 ^ 32) = z := by
  rw [Int.bmod_eq_of_le (by omega) (by omega)]
theorem fb_addI {x y : Int32} (h1 : -2147483648 ≤ x.toInt + y.toInt) (h2 : x.toInt + y.toInt < 2147483648) : (x + y).toInt = x.toInt + y.toInt := by
  rw [Int32.toInt_add, fb_bmod h1 h2]
theorem fb_subI {x y : Int32} (h1 : -2147483648 ≤ x.toInt - y.toInt) (h2 : x.toInt - y.toInt < 2147483648) : (x - y).toInt = x.toInt - y.toInt := by
  rw [Int32.toInt_sub, fb_bmod h1 h2]
theorem fb_mulI {x y : Int32} (h1 : -2147483648 ≤ x.toInt * y.toInt) (h2 : x.toInt * y.toInt < 2147483648) : (x * y).toInt = x.toInt * y.toInt := by
  rw [Int32.toInt_mul, fb_bmod h1 h2]
theorem fb_negI {x : Int32} (h : x.toInt ≠ -2147483648) : (-x).toInt = -x.toInt := by
  have := fb_rng x
  rw [Int32.toInt_neg, fb_bmod (by omega) (by omega)]
theorem fb_ofI {z : Int} (h1 : -2147483648 ≤ z) (h2 : z < 2147483648) : (Int32.ofInt z).toInt = z := by
  rw [Int32.toInt_ofInt, fb_bmod h1 h2]
theorem fb_asI (x : Int32) : Int32.ofInt x.toInt = x := Int32.ofInt_toInt x
theorem fb_rngL (x : Int64) : -9223372036854775808 ≤ x.toInt ∧ x.toInt < 9223372036854775808 := by
  have h1 := Int64.le_toInt x
  have h2 := Int64.toInt_lt x
  omega
theorem fb_bmodL {z : Int} (h1 : -9223372036854775808 ≤ z) (h2 : z < 9223372036854775808) : z.bmod (2 ^ 64) = z := by
  rw [Int.bmod_eq_of_le (by omega) (by omega)]
theorem fb_addL {x y : Int64} (h1 : -9223372036854775808 ≤ x.toInt + y.toInt) (h2 : x.toInt + y.toInt < 9223372036854775808) : (x + y).toInt = x.toInt + y.toInt := by
  rw [Int64.toInt_add, fb_bmodL h1 h2]
theorem fb_subL {x y : Int64} (h1 : -9223372036854775808 ≤ x.toInt - y.toInt) (h2 : x.toInt - y.toInt < 9223372036854775808) : (x - y).toInt = x.toInt - y.toInt := by
  rw [Int64.toInt_sub, fb_bmodL h1 h2]
theorem fb_mulL {x y : Int64} (h1 : -9223372036854775808 ≤ x.toInt * y.toInt) (h2 : x.toInt * y.toInt < 9223372036854775808) : (x * y).toInt = x.toInt * y.toInt := by
  rw [Int64.toInt_mul, fb_bmodL h1 h2]
/-! ===== order of ints, in all its forms, and through longs ===== -/
theorem fa_lt (a b : Int32) : a < b ↔ a.toInt < b.toInt := Int32.lt_iff_toInt_lt
theorem fa_le (a b : Int32) : a ≤ b ↔ a.toInt ≤ b.toInt := Int32.le_iff_toInt_le
theorem fa_eq (a b : Int32) : a = b ↔ a.toInt = b.toInt := Int32.toInt_inj.symm
theorem fa_lt64 (a b : Int64) : a < b ↔ a.toInt < b.toInt := Int64.lt_iff_toInt_lt
theorem fa_le64 (a b : Int64) : a ≤ b ↔ a.toInt ≤ b.toInt := Int64.le_iff_toInt_le
theorem fa_eq64 (a b : Int64) : a = b ↔ a.toInt = b.toInt := Int64.toInt_inj.symm
/-- a comparison of two ints taken as longs -/
theorem fa_wide_lt (a b : Int32) : a.toInt64 < b.toInt64 ↔ a < b := by rw [fa_lt64, fa_lt, Int32.toInt_toInt64, Int32.toInt_toInt64]
theorem fa_wide_le (a b : Int32) : a.toInt64 ≤ b.toInt64 ↔ a ≤ b := by rw [fa_le64, fa_le, Int32.toInt_toInt64, Int32.toInt_toInt64]
theorem fa_wide_eq (a b : Int32) : a.toInt64 = b.toInt64 ↔ a = b := by rw [fa_eq64, fa_eq, Int32.toInt_toInt64, Int32.toInt_toInt64]
/-- one strict comparison gives all the others -/
theorem fa_of_lt {a b : Int32} (h : a < b) : a ≤ b ∧ ¬ b ≤ a ∧ ¬ b < a ∧ a ≠ b ∧ b ≠ a := by
  rw [fa_lt] at h
  refine ⟨?_, ?_, ?_, ?_, ?_⟩
  · rw [fa_le]; omega
  · rw [fa_le]; omega
  · rw [fa_lt]; omega
  · intro e; rw [fa_eq] at e; omega
  · intro e; rw [fa_eq] at e; omega
theorem fa_of_nlt {a b : Int32} (h : ¬ a < b) : b ≤ a := by
  rw [fa_lt] at h
  rw [fa_le]
  omega
theorem fa_of_nle {a b : Int32} (h : ¬ a ≤ b) : b < a := by
  rw [fa_le] at h
  rw [fa_lt]
  omega
theorem fa_le_ne {a b : Int32} (h : a ≤ b) (h2 : a ≠ b) : a < b := by
  rw [fa_le] at h
  rw [fa_lt]
  have h3 : a.toInt ≠ b.toInt := fun e => h2 ((fa_eq a b).mpr e)
  omega
theorem fa_three (a b : Int32) : a < b ∨ a = b ∨ b < a := by
  rw [fa_lt, fa_lt, fa_eq]
  omega
theorem fa_trans {a b c : Int32} (h : a < b) (h2 : b ≤ c) : a < c := by
  rw [fa_lt] at *
  rw [fa_le] at h2
  omega
/-! ===== small literals as numbers ===== -/
theorem fa_lit (n : Nat) : (OfNat.ofNat n : Int32) = nI n := rfl
theorem fa_litL (n : Nat) : (OfNat.ofNat n : Int64) = lN n := rfl
/-! ===== bits of a number: 'or', masks, one bit ===== -/
theorem fa_and (a b : Nat) : nI a &&& nI b = nI (a &&& b) := by
  apply Int32.toBitVec_inj.1
  show BitVec.ofNat 32 a &&& BitVec.ofNat 32 b = BitVec.ofNat 32 (a &&& b)
  apply BitVec.eq_of_getLsbD_eq
  intro i hi
  simp [hi]
theorem fa_or (a b : Nat) : nI a ||| nI b = nI (a ||| b) := by
  apply Int32.toBitVec_inj.1
  show BitVec.ofNat 32 a ||| BitVec.ofNat 32 b = BitVec.ofNat 32 (a ||| b)
  apply BitVec.eq_of_getLsbD_eq
  intro i hi
  simp [hi]
/-- a remainder by a power of two, as a mask -/
theorem fa_mask (n k : Nat) : nI n &&& nI (2 ^ k - 1) = nI (n % 2 ^ k) := by rw [fa_and, Nat.and_two_pow_sub_one_eq_mod]
/-- 'or' of a high part and a low one that don't meet is their sum -/
theorem fa_or_sum {a k : Nat} (b : Nat) (h : a < 2 ^ k) : nI (2 ^ k * b) ||| nI a = nI (2 ^ k * b + a) := by rw [fa_or, Nat.two_pow_add_eq_or_of_lt h]
/-! ===== an array behind i stores, a conditional store, a row copied ===== -/
/-- f where k < i, what stood there else -/
def fa_fill {α : Type} (f g : Nat → α) (i : Nat) : Nat → α := fun k => if k < i then f k else g k
theorem fa_fill_0 {α : Type} (f g : Nat → α) : fa_fill f g 0 = g := funext fun k => if_neg (Nat.not_lt_zero k)
theorem fa_fill_in {α : Type} {f g : Nat → α} {i k : Nat} (h : k < i) : fa_fill f g i k = f k := if_pos h
theorem fa_fill_out {α : Type} {f g : Nat → α} {i k : Nat} (h : i ≤ k) : fa_fill f g i k = g k := if_neg (Nat.not_lt.mpr h)
theorem fa_fill_succ (f g : Nat → Int32) (i : Nat) : upd (fa_fill f g i) i (f i) = fa_fill f g (i + 1) := by
  funext k
  by_cases e : k = i
  · subst e
    rw [pk_us]
    exact (if_pos (Nat.lt_succ_self k)).symm
  · rw [pk_un e]
    by_cases h : k < i
    · rw [fa_fill_in h, fa_fill_in (Nat.lt_succ_of_lt h)]
    · rw [fa_fill_out (Nat.le_of_not_lt h), fa_fill_out (by omega)]
/-- a store that changes nothing -/
theorem fa_upd_same {f : Nat → Int32} {i : Nat} {x : Int32} (h : f i = x) : upd f i x = f := by
  funext k
  by_cases e : k = i
  · subst e
    rw [pk_us, h]
  · rw [pk_un e]
/-- a store under a condition, told as one -/
theorem fa_upd_if (c : Prop) [Decidable c] (f : Nat → Int32) (i : Nat) (x : Int32) : (if c then upd f i x else f) = upd f i (if c then x else f i) := by
  by_cases h : c
  · rw [if_pos h, if_pos h]
  · rw [if_neg h, if_neg h, fa_upd_same rfl]
/-- two stores at one place, at two -/
theorem fa_upd_twice (f : Nat → Int32) (i : Nat) (x y : Int32) : upd (upd f i x) i y = upd f i y := by
  funext k
  by_cases e : k = i
  · subst e
    rw [pk_us, pk_us]
  · rw [pk_un e, pk_un e, pk_un e]
theorem fa_upd_swap (f : Nat → Int32) {i j : Nat} (h : i ≠ j) (x y : Int32) : upd (upd f i x) j y = upd (upd f j y) i x := by
  funext k
  by_cases e : k = i
  · subst e
    rw [pk_un h, pk_us, pk_us]
  · by_cases e2 : k = j
    · subst e2
      rw [pk_us, pk_un e, pk_us]
    · rw [pk_un e2, pk_un e, pk_un e, pk_un e2]
/-! ===== an answer carried into a post; a branch on a boolean answer ===== -/
theorem fa_post {α : Type} {P : α → Prop} {x y : α} (h : x = y) (hp : P y) : P x := h ▸ hp
theorem fa_post2 {α β : Type} {P : α → β → Prop} {x y : α} {u v : β} (h : x = y) (h2 : u = v) (hp : P y v) : P x u := h ▸ h2 ▸ hp
theorem fa_bool {r : Int32} {b : Bool} (h : r = if b then 1 else 0) : (r = 0 ↔ b = false) ∧ (¬ r = 0 ↔ b = true) := by
  subst h
  cases b
  · exact ⟨⟨fun _ => rfl, fun _ => rfl⟩, ⟨fun h => absurd rfl h, fun h => absurd h (by decide)⟩⟩
  · exact ⟨⟨fun h => absurd h (by decide), fun h => absurd h (by decide)⟩, ⟨fun _ => rfl, fun _ => by decide⟩⟩
/-- a boolean's narrowing changes nothing -/
theorem fa_bool_and {r : Int32} (h : r = 0 ∨ r = 1) : r &&& 1 = r := by
  rcases h with rfl | rfl
  · decide
  · decide
theorem fa_bool_prop {c : Prop} [Decidable c] {r : Int32} (h : r = if c then 1 else 0) : (r = 0 ↔ ¬ c) ∧ (¬ r = 0 ↔ c) := by
  subst h
  by_cases hc : c
  · rw [if_pos hc]
    exact ⟨⟨fun h => absurd h (by decide), fun h => absurd hc h⟩, ⟨fun _ => hc, fun _ => by decide⟩⟩
  · rw [if_neg hc]
    exact ⟨⟨fun _ => hc, fun _ => rfl⟩, ⟨fun h => absurd rfl h, fun h => absurd h hc⟩⟩
end
section
/-! THE MINI MACHINE: one object (address α 99) with int and boolean fields and int and boolean arrays (field k's array at α k).
    mS: field k's contents (an int field: place 0). mv: an int, or a reference by its number. -/
set_option maxRecDepth 100000
abbrev mv : Type := Int32 ⊕ Nat
abbrev mS : Type := Nat → Nat → Int32
abbrev mL : Type := List (Option mv)
abbrev mT : Type := List Int32 → mS → (Option Int32 → mS → Prop) → Prop
/-- instruction table, field links (index, field), fields (code: 0 int, 1 boolean, 2 int array, 3 boolean array; length), answer's type, calls (index, arguments, on this?, contract), cut points with masks -/
abbrev mP : Type := List (Nat × Instr × Int32 × Nat) × List (Nat × Nat) × List (Nat × Nat) × Option FieldType × List (Nat × Nat × Bool × mT) × List (Nat × List Bool)
def mval (α : Nat → Nat) (v : mv) : Value := match v with
  | .inl x => .int x
  | .inr k => .ref (α k)
def mU (σ : mS) (k i : Nat) (x : Int32) : mS := fun k' => if k' = k then upd (σ k) i x else σ k'
def mlen (I : Instr) : Nat := match I with
  | .bipush _ => 2
  | .iload _ => 2
  | .istore _ => 2
  | .sipush _ => 3
  | .getfield _ => 3
  | .putfield _ => 3
  | .goto _ => 3
  | .ifCond _ _ => 3
  | .if_icmp _ _ => 3
  | .iinc _ _ => 3
  | .invokevirtual _ => 3
  | .invokestatic _ => 3
  | _ => 1
def mchk (cc : ByteArray) (q : Nat × Instr × Int32 × Nat) : Prop := decode cc q.1 = .ok (q.2.1, mlen q.2.1) ∧ (match q.2.1 with
  | .iconst n => Int32.ofInt n = q.2.2.1
  | .bipush n => (Int8.ofInt n).toInt32 = q.2.2.1
  | .sipush n => (Int16.ofInt n).toInt32 = q.2.2.1
  | .iinc _ n => Int32.ofInt n = q.2.2.1
  | .goto n => (q.1 : Int) + n = (q.2.2.2 : Int)
  | .ifCond _ n => (q.1 : Int) + n = (q.2.2.2 : Int)
  | .if_icmp _ n => (q.1 : Int) + n = (q.2.2.2 : Int)
  | _ => True)
def mchkB (cc : ByteArray) (q : Nat × Instr × Int32 × Nat) : Bool := decide (decode cc q.1 = .ok (q.2.1, mlen q.2.1)) && (match q.2.1 with
  | .iconst n => decide (Int32.ofInt n = q.2.2.1)
  | .bipush n => decide ((Int8.ofInt n).toInt32 = q.2.2.1)
  | .sipush n => decide ((Int16.ofInt n).toInt32 = q.2.2.1)
  | .iinc _ n => decide (Int32.ofInt n = q.2.2.1)
  | .goto n => decide ((q.1 : Int) + n = (q.2.2.2 : Int))
  | .ifCond _ n => decide ((q.1 : Int) + n = (q.2.2.2 : Int))
  | .if_icmp _ n => decide ((q.1 : Int) + n = (q.2.2.2 : Int))
  | _ => true)
theorem mchk_of {cc : ByteArray} {q : Nat × Instr × Int32 × Nat} (h : mchkB cc q = true) : mchk cc q := by
  obtain ⟨pc, I, v, t⟩ := q
  unfold mchkB at h
  rw [Bool.and_eq_true] at h
  refine ⟨of_decide_eq_true h.1, ?_⟩
  have h2 := h.2
  cases I <;> first | trivial | exact of_decide_eq_true h2
def fcode (fd : List (Nat × Nat)) (k : Nat) : Nat := (fd.getD k (0, 0)).1
def flen (fd : List (Nat × Nat)) (k : Nat) : Nat := (fd.getD k (0, 0)).2
def mI1 (st : List mv) (k : Int32 → List mv → Prop) : Prop := match st with
  | .inl x :: r => k x r
  | _ => False
def mI2 (st : List mv) (k : Int32 → Int32 → List mv → Prop) : Prop := match st with
  | .inl y :: .inl x :: r => k x y r
  | _ => False
def mR1 (st : List mv) (k : Nat → List mv → Prop) : Prop := match st with
  | .inr o :: r => k o r
  | _ => False
def mIR (st : List mv) (k : Int32 → Nat → List mv → Prop) : Prop := match st with
  | .inl i :: .inr o :: r => k i o r
  | _ => False
def mIIR (st : List mv) (k : Int32 → Int32 → Nat → List mv → Prop) : Prop := match st with
  | .inl x :: .inl i :: .inr o :: r => k x i o r
  | _ => False
def mV1 (st : List mv) (k : mv → List mv → Prop) : Prop := match st with
  | a :: r => k a r
  | _ => False
def mV2 (st : List mv) (k : mv → mv → List mv → Prop) : Prop := match st with
  | a :: b :: r => k a b r
  | _ => False
def mGetI (L : mL) (i : Nat) (k : Int32 → Prop) : Prop := match L[i]? with
  | some (some (.inl x)) => k x
  | _ => False
def mGetR (L : mL) (i : Nat) (k : Nat → Prop) : Prop := match L[i]? with
  | some (some (.inr x)) => k x
  | _ => False
def mSet (L : mL) (i : Nat) (x : Int32) (k : mL → Prop) : Prop := match Nat.blt i L.length with
  | true => k (L.set i (some (.inl x)))
  | false => False
def mFl (fl : List (Nat × Nat)) (i : Nat) (k : Nat → Prop) : Prop := match fl.lookup i with
  | some f => k f
  | none => False
def mIs (b : Bool) (k : Prop) : Prop := match b with
  | true => k
  | false => False
def mbr (c : Jvm.ClassFile.Cond) (x y : Int32) (a b : Prop) : Prop := match c with
  | .eq => (x = y → a) ∧ (¬ x = y → b)
  | .ne => (¬ x = y → a) ∧ (x = y → b)
  | .lt => (x < y → a) ∧ (¬ x < y → b)
  | .ge => (y ≤ x → a) ∧ (¬ y ≤ x → b)
  | .gt => (y < x → a) ∧ (¬ y < x → b)
  | .le => (x ≤ y → a) ∧ (¬ x ≤ y → b)
def mPop : Nat → List mv → List Int32 → Option (List Int32 × List mv)
  | 0, st, acc => some (acc, st)
  | n + 1, .inl x :: st, acc => mPop n st (x :: acc)
  | _ + 1, _, _ => none
def mpush (x : Option Int32) (r : List mv) : List mv := match x with
  | some y => .inl y :: r
  | none => r
def mfv (fd : List (Nat × Nat)) (σ : mS) (k : Nat) : mv := match Nat.ble 2 (fcode fd k) with
  | true => .inr k
  | false => .inl (σ k 0)
def mRI (Ret : Option Int32 → mS → Prop) (st : List mv) (ret : Option FieldType) (σ : mS) : Prop := match st, ret with
  | [.inl x], some .int => Ret (some x) σ
  | [.inl x], some .boolean => (x = 0 ∨ x = 1) ∧ Ret (some x) σ
  | _, _ => False
def mRV (Ret : Option Int32 → mS → Prop) (st : List mv) (ret : Option FieldType) (σ : mS) : Prop := match st, ret with
  | [], none => Ret none σ
  | _, _ => False
def mCV (l : Option (Nat × Bool × mT)) (st : List mv) (σ : mS) (k : Option Int32 → List mv → mS → Prop) : Prop := match l with
  | some (n, true, T) => match mPop n st [] with
    | some (vs, .inr o :: r) => mIs (Nat.beq o 99) (mIs (Nat.ble r.length 8) (T vs σ (fun x σ' => k x r σ')))
    | _ => False
  | _ => False
def mCS (l : Option (Nat × Bool × mT)) (st : List mv) (σ : mS) (k : Option Int32 → List mv → mS → Prop) : Prop := match l with
  | some (n, false, T) => match mPop n st [] with
    | some (vs, r) => mIs (Nat.ble r.length 8) (T vs σ (fun x σ' => k x r σ'))
    | _ => False
  | _ => False
def mI (P : mP) (K : Nat → mL → List mv → mS → Prop) (Ret : Option Int32 → mS → Prop) (pc : Nat) (L : mL) (st : List mv) (σ : mS) (I : Instr) (v : Int32) (t : Nat) : Prop := match I with
  | .iconst _ => K (pc + 1) L (.inl v :: st) σ
  | .bipush _ => K (pc + 2) L (.inl v :: st) σ
  | .sipush _ => K (pc + 3) L (.inl v :: st) σ
  | .iload_n i => mGetI L i.val (fun x => K (pc + 1) L (.inl x :: st) σ)
  | .iload i => mGetI L i (fun x => K (pc + 2) L (.inl x :: st) σ)
  | .aload_n i => mGetR L i.val (fun x => K (pc + 1) L (.inr x :: st) σ)
  | .istore_n i => mI1 st (fun x r => mSet L i.val x (fun L' => K (pc + 1) L' r σ))
  | .istore i => mI1 st (fun x r => mSet L i x (fun L' => K (pc + 2) L' r σ))
  | .iinc i _ => mGetI L i (fun x => mSet L i (x + v) (fun L' => K (pc + 3) L' st σ))
  | .iadd => mI2 st (fun x y r => K (pc + 1) L (.inl (x + y) :: r) σ)
  | .isub => mI2 st (fun x y r => K (pc + 1) L (.inl (x - y) :: r) σ)
  | .imul => mI2 st (fun x y r => K (pc + 1) L (.inl (x * y) :: r) σ)
  | .iand => mI2 st (fun x y r => K (pc + 1) L (.inl (x &&& y) :: r) σ)
  | .ior => mI2 st (fun x y r => K (pc + 1) L (.inl (x ||| y) :: r) σ)
  | .ixor => mI2 st (fun x y r => K (pc + 1) L (.inl (x ^^^ y) :: r) σ)
  | .idiv => mI2 st (fun x y r => ¬ y = 0 ∧ K (pc + 1) L (.inl (x / y) :: r) σ)
  | .irem => mI2 st (fun x y r => ¬ y = 0 ∧ K (pc + 1) L (.inl (x - x / y * y) :: r) σ)
  | .ishl => mI2 st (fun x y r => K (pc + 1) L (.inl (x <<< (y &&& 31)) :: r) σ)
  | .ishr => mI2 st (fun x y r => K (pc + 1) L (.inl (x >>> (y &&& 31)) :: r) σ)
  | .dup => mV1 st (fun a r => K (pc + 1) L (a :: a :: r) σ)
  | .pop => mV1 st (fun _ r => K (pc + 1) L r σ)
  | .dup2 => mV2 st (fun a b r => K (pc + 1) L (a :: b :: a :: b :: r) σ)
  | .getfield i => mR1 st (fun o r => mFl P.2.1 i (fun k => mIs (Nat.beq o 99) (K (pc + 3) L (mfv P.2.2.1 σ k :: r) σ)))
  | .putfield i => mIR st (fun x o r => mFl P.2.1 i (fun k => mIs (Nat.beq o 99) (match fcode P.2.2.1 k with
    | 0 => K (pc + 3) L r (mU σ k 0 x)
    | 1 => (x = 0 ∨ x = 1) ∧ K (pc + 3) L r (mU σ k 0 x)
    | _ => False)))
  | .iaload => mIR st (fun i k r => mIs (Nat.beq (fcode P.2.2.1 k) 2) (vp_in i (flen P.2.2.1 k) ∧ ∀ x : Int32, x = σ k i.toNatClampNeg → K (pc + 1) L (.inl x :: r) σ))
  | .baload => mIR st (fun i k r => mIs (Nat.beq (fcode P.2.2.1 k) 3) (vp_in i (flen P.2.2.1 k) ∧ ∀ x : Int32, x = σ k i.toNatClampNeg → K (pc + 1) L (.inl x :: r) σ))
  | .iastore => mIIR st (fun x i k r => mIs (Nat.beq (fcode P.2.2.1 k) 2) (vp_in i (flen P.2.2.1 k) ∧ K (pc + 1) L r (mU σ k i.toNatClampNeg x)))
  | .bastore => mIIR st (fun x i k r => mIs (Nat.beq (fcode P.2.2.1 k) 3) (vp_in i (flen P.2.2.1 k) ∧ K (pc + 1) L r (mU σ k i.toNatClampNeg (x &&& 1))))
  | .ifCond c _ => mI1 st (fun x r => mbr c x 0 (K t L r σ) (K (pc + 3) L r σ))
  | .if_icmp c _ => mI2 st (fun x y r => mbr c x y (K t L r σ) (K (pc + 3) L r σ))
  | .goto _ => K t L st σ
  | .ireturn => mRI Ret st P.2.2.2.1 σ
  | .return_ => mRV Ret st P.2.2.2.1 σ
  | .invokevirtual i => mCV (P.2.2.2.2.1.lookup i) st σ (fun x r σ' => K (pc + 3) L (mpush x r) σ')
  | .invokestatic i => mCS (P.2.2.2.2.1.lookup i) st σ (fun x r σ' => K (pc + 3) L (mpush x r) σ')
  | _ => False
def mstep (P : mP) (K : Nat → mL → List mv → mS → Prop) (Ret : Option Int32 → mS → Prop) (pc : Nat) (L : mL) (st : List mv) (σ : mS) : Prop := match P.1.lookup pc with
  | some q => mI P K Ret pc L st σ q.1 q.2.1 q.2.2
  | none => False
def mmask (mk : List Bool) (L : mL) : mL := List.zipWith (fun b v => match b with | true => v | false => none) mk L
def mblk (P : mP) (G : Nat → mL → List mv → mS → Prop) (Ret : Option Int32 → mS → Prop) : Nat → Nat → mL → List mv → mS → Prop
  | 0, _, _, _, _ => False
  | n + 1, pc, L, st, σ => mstep P (fun pc L st σ => match P.2.2.2.2.2.lookup pc with
    | some mq => G pc (mmask mq L) st σ
    | none => mblk P G Ret n pc L st σ) Ret pc L st σ
def mCl (P : mP) (G : Nat → mL → List mv → mS → Prop) (Ret : Option Int32 → mS → Prop) : Prop := ∀ (n pc : Nat) (L : mL) (st : List mv) (σ : mS), mblk P G Ret n pc L st σ → G pc L st σ
-- ===== what the parts of a step say =====
theorem mI1_ok {st : List mv} {k : Int32 → List mv → Prop} (h : mI1 st k) : ∃ x r, st = .inl x :: r ∧ k x r := by
  match st, h with
  | .inl x :: r, h => exact ⟨x, r, rfl, h⟩
theorem mI2_ok {st : List mv} {k : Int32 → Int32 → List mv → Prop} (h : mI2 st k) : ∃ x y r, st = .inl y :: .inl x :: r ∧ k x y r := by
  match st, h with
  | .inl y :: .inl x :: r, h => exact ⟨x, y, r, rfl, h⟩
theorem mR1_ok {st : List mv} {k : Nat → List mv → Prop} (h : mR1 st k) : ∃ x r, st = .inr x :: r ∧ k x r := by
  match st, h with
  | .inr x :: r, h => exact ⟨x, r, rfl, h⟩
theorem mIR_ok {st : List mv} {k : Int32 → Nat → List mv → Prop} (h : mIR st k) : ∃ i o r, st = .inl i :: .inr o :: r ∧ k i o r := by
  match st, h with
  | .inl i :: .inr o :: r, h => exact ⟨i, o, r, rfl, h⟩
theorem mIIR_ok {st : List mv} {k : Int32 → Int32 → Nat → List mv → Prop} (h : mIIR st k) : ∃ x i o r, st = .inl x :: .inl i :: .inr o :: r ∧ k x i o r := by
  match st, h with
  | .inl x :: .inl i :: .inr o :: r, h => exact ⟨x, i, o, r, rfl, h⟩
theorem mV1_ok {st : List mv} {k : mv → List mv → Prop} (h : mV1 st k) : ∃ a r, st = a :: r ∧ k a r := by
  match st, h with
  | a :: r, h => exact ⟨a, r, rfl, h⟩
theorem mV2_ok {st : List mv} {k : mv → mv → List mv → Prop} (h : mV2 st k) : ∃ a b r, st = a :: b :: r ∧ k a b r := by
  match st, h with
  | a :: b :: r, h => exact ⟨a, b, r, rfl, h⟩
theorem mGetI_ok {L : mL} {i : Nat} {k : Int32 → Prop} (h : mGetI L i k) : ∃ x, L[i]? = some (some (.inl x)) ∧ k x := by
  unfold mGetI at h
  split at h
  · rename_i x hx
    exact ⟨x, hx, h⟩
  · exact h.elim
theorem mGetR_ok {L : mL} {i : Nat} {k : Nat → Prop} (h : mGetR L i k) : ∃ x, L[i]? = some (some (.inr x)) ∧ k x := by
  unfold mGetR at h
  split at h
  · rename_i x hx
    exact ⟨x, hx, h⟩
  · exact h.elim
theorem mSet_ok {L : mL} {i : Nat} {x : Int32} {k : mL → Prop} (h : mSet L i x k) : i < L.length ∧ k (L.set i (some (.inl x))) := by
  unfold mSet at h
  split at h
  · rename_i hx
    exact ⟨Nat.blt_eq.mp hx, h⟩
  · exact h.elim
theorem mFl_ok {fl : List (Nat × Nat)} {i : Nat} {k : Nat → Prop} (h : mFl fl i k) : ∃ f, (i, f) ∈ fl ∧ k f := by
  unfold mFl at h
  split at h
  · rename_i f hf
    refine ⟨f, ?_, h⟩
    clear h
    induction fl with
    | nil => simp at hf
    | cons a t ih =>
      rw [List.lookup_cons] at hf
      split at hf
      · rename_i he
        cases hf
        rw [eq_of_beq he]
        exact List.mem_cons_self
      · exact List.mem_cons_of_mem _ (ih hf)
  · exact h.elim
theorem mIs_ok {b : Bool} {k : Prop} (h : mIs b k) : b = true ∧ k := by
  cases b
  · exact h.elim
  · exact ⟨rfl, h⟩
theorem m_lookup {β : Type} {l : List (Nat × β)} {i : Nat} {b : β} (h : l.lookup i = some b) : (i, b) ∈ l := by
  induction l with
  | nil => simp at h
  | cons a t ih =>
    rw [List.lookup_cons] at h
    split at h
    · rename_i he
      cases h
      rw [eq_of_beq he]
      exact List.mem_cons_self
    · exact List.mem_cons_of_mem _ (ih h)
theorem mRI_ok {Ret : Option Int32 → mS → Prop} {st : List mv} {ret : Option FieldType} {σ : mS} (h : mRI Ret st ret σ) : ∃ x ty, st = [.inl x] ∧ ret = some ty ∧ narrow ty (.int x) = .int x ∧ Ret (some x) σ := by
  unfold mRI at h
  split at h
  · exact ⟨_, _, rfl, rfl, rfl, h⟩
  · refine ⟨_, _, rfl, rfl, ?_, h.2⟩
    rcases h.1 with e | e <;> rw [e] <;> rfl
  · exact h.elim
theorem mRV_ok {Ret : Option Int32 → mS → Prop} {st : List mv} {ret : Option FieldType} {σ : mS} (h : mRV Ret st ret σ) : st = [] ∧ ret = none ∧ Ret none σ := by
  unfold mRV at h
  split at h
  · exact ⟨rfl, rfl, h⟩
  · exact h.elim
theorem mCV_ok {l : Option (Nat × Bool × mT)} {st : List mv} {σ : mS} {k : Option Int32 → List mv → mS → Prop} (h : mCV l st σ k) : ∃ n T vs r, l = some (n, true, T) ∧ mPop n st [] = some (vs, .inr 99 :: r) ∧ r.length ≤ 8 ∧ T vs σ (fun x σ' => k x r σ') := by
  unfold mCV at h
  split at h
  · rename_i n T
    split at h
    · rename_i vs o r hp
      obtain ⟨h1, h3⟩ := mIs_ok h
      obtain ⟨h2, h4⟩ := mIs_ok h3
      have h1 : o = 99 := Nat.eq_of_beq_eq_true h1
      subst h1
      exact ⟨n, T, vs, r, rfl, hp, Nat.ble_eq.mp h2, h4⟩
    · exact h.elim
  · exact h.elim
theorem mCS_ok {l : Option (Nat × Bool × mT)} {st : List mv} {σ : mS} {k : Option Int32 → List mv → mS → Prop} (h : mCS l st σ k) : ∃ n T vs r, l = some (n, false, T) ∧ mPop n st [] = some (vs, r) ∧ r.length ≤ 8 ∧ T vs σ (fun x σ' => k x r σ') := by
  unfold mCS at h
  split at h
  · rename_i n T
    split at h
    · rename_i vs r hp
      obtain ⟨h2, h⟩ := mIs_ok h
      exact ⟨n, T, vs, r, rfl, hp, Nat.ble_eq.mp h2, h⟩
    · exact h.elim
  · exact h.elim
theorem mPop_ok : ∀ (n : Nat) (st : List mv) (acc : List Int32) (vs : List Int32) (r : List mv), mPop n st acc = some (vs, r) → ∃ ws : List Int32, st = ws.map Sum.inl ++ r ∧ vs = ws.reverse ++ acc ∧ ws.length = n
  | 0, st, acc, vs, r, h => by
    cases h
    exact ⟨[], rfl, rfl, rfl⟩
  | n + 1, [], acc, vs, r, h => by cases h
  | n + 1, .inr _ :: st, acc, vs, r, h => by cases h
  | n + 1, .inl x :: st, acc, vs, r, h => by
    obtain ⟨ws, h1, h2, h3⟩ := mPop_ok n st (x :: acc) vs r h
    exact ⟨x :: ws, by rw [h1]; rfl, by rw [h2]; simp, by simp [h3]⟩
-- ===== contracts by what they ask and what they give =====
def mTv (P : List Int32 → mS → Prop) (R : List Int32 → mS → mS → Prop) : mT := fun vs σ Q => P vs σ ∧ ∀ σ' : mS, R vs σ σ' → Q none σ'
def mTi (P : List Int32 → mS → Prop) (R : List Int32 → mS → Int32 → mS → Prop) : mT := fun vs σ Q => P vs σ ∧ ∀ (x : Int32) (σ' : mS), R vs σ x σ' → Q (some x) σ'
def mTp (P : List Int32 → mS → Prop) (R : List Int32 → mS → Int32 → Prop) : mT := fun vs σ Q => P vs σ ∧ ∀ x : Int32, R vs σ x → Q (some x) σ
/-- with a ghost g, which the caller gives -/
def mGv {γ : Type} (P : γ → List Int32 → mS → Prop) (R : γ → List Int32 → mS → mS → Prop) : mT := fun vs σ Q => ∃ g : γ, P g vs σ ∧ ∀ σ' : mS, R g vs σ σ' → Q none σ'
def mGi {γ : Type} (P : γ → List Int32 → mS → Prop) (R : γ → List Int32 → mS → Int32 → mS → Prop) : mT := fun vs σ Q => ∃ g : γ, P g vs σ ∧ ∀ (x : Int32) (σ' : mS), R g vs σ x σ' → Q (some x) σ'
end
section
/-! THE MINI MACHINE IS SOUND over the kit's rows -/
set_option maxRecDepth 100000
theorem mval_cat (α : Nat → Nat) (v : mv) : (mval α v).category = 1 := by
  cases v <;> rfl
def mks (fd : List (Nat × Nat)) : List Nat := (List.range fd.length).filter (fun k => Nat.ble 2 (fcode fd k))
def mcell (fd : List (Nat × Nat)) (cI cZ : ClassId) (α : Nat → Nat) (σ : mS) (k : Nat) : Nat × va_E := (α k, .inl (if fcode fd k = 3 then cZ else cI, flen fd k, .inl (σ k)))
def mflds (fd : List (Nat × Nat)) (α : Nat → Nat) (σ : mS) : List Value := (List.range fd.length).map (fun k => mval α (mfv fd σ k))
def mW (ci : Nat) (fd : List (Nat × Nat)) (cI cZ : ClassId) (α : Nat → Nat) (σ : mS) : va_W := (α 99, .inr (ci, mflds fd α σ)) :: (mks fd).map (mcell fd cI cZ α σ)
theorem mks_mem {fd : List (Nat × Nat)} {k : Nat} (h : 2 ≤ fcode fd k) : k ∈ mks fd := by
  refine List.mem_filter.mpr ⟨List.mem_range.mpr ?_, Nat.ble_eq.mpr h⟩
  rcases Nat.lt_or_ge k fd.length with q | q
  · exact q
  · unfold fcode at h
    rw [List.getD_eq_getElem?_getD, List.getElem?_eq_none q] at h
    exact absurd h (by decide)
theorem mks_nodup (fd : List (Nat × Nat)) : (mks fd).Nodup := List.Pairwise.filter _ List.nodup_range
theorem mks_code {fd : List (Nat × Nat)} {k : Nat} (h : k ∈ mks fd) : 2 ≤ fcode fd k := Nat.ble_eq.mp (List.mem_filter.mp h).2
theorem m_set_map {β : Type} {f g : Nat → β} : ∀ (l : List Nat) (q k : Nat), l.Nodup → l[q]? = some k → (∀ k' ∈ l, k' ≠ k → f k' = g k') → (l.map f).set q (g k) = l.map g
  | [], q, k, _, h, _ => by simp at h
  | a :: l, 0, k, hn, h, hf => by
    simp only [List.getElem?_cons_zero, Option.some.injEq] at h
    subst h
    have hn2 := (List.nodup_cons.mp hn).1
    rw [List.map_cons, List.set_cons_zero, List.map_cons]
    congr 1
    refine List.map_congr_left fun k' hk' => ?_
    exact hf k' (List.mem_cons_of_mem _ hk') (fun e => hn2 (e ▸ hk'))
  | a :: l, q + 1, k, hn, h, hf => by
    simp only [List.getElem?_cons_succ] at h
    have hn2 := List.nodup_cons.mp hn
    rw [List.map_cons, List.set_cons_succ, List.map_cons, m_set_map l q k hn2.2 h (fun k' hk' => hf k' (List.mem_cons_of_mem _ hk')), hf a List.mem_cons_self (fun e => hn2.1 (e ▸ List.mem_of_getElem? h))]
theorem mW_arr {ci : Nat} {fd : List (Nat × Nat)} {cI cZ : ClassId} {α : Nat → Nat} {σ : mS} {k : Nat} (h : 2 ≤ fcode fd k) : ∃ q0, (mks fd)[q0]? = some k ∧ (mW ci fd cI cZ α σ)[q0 + 1]? = some (mcell fd cI cZ α σ k) := by
  obtain ⟨q0, hq⟩ := List.getElem?_of_mem (mks_mem h)
  refine ⟨q0, hq, ?_⟩
  show ((mks fd).map (mcell fd cI cZ α σ))[q0]? = _
  rw [List.getElem?_map, hq]
  rfl
theorem mU_ne {σ : mS} {k i k' : Nat} {x : Int32} (h : k' ≠ k) : mU σ k i x k' = σ k' := if_neg h
theorem mU_eq {σ : mS} {k i : Nat} {x : Int32} : mU σ k i x k = upd (σ k) i x := if_pos rfl
theorem mfv_ne {fd : List (Nat × Nat)} {σ : mS} {k i k' : Nat} {x : Int32} (h : k' ≠ k ∨ 2 ≤ fcode fd k') : mfv fd (mU σ k i x) k' = mfv fd σ k' := by
  unfold mfv
  split
  · rfl
  · rename_i hb
    rcases h with h | h
    · rw [mU_ne h]
    · rw [Nat.ble_eq.mpr h] at hb
      cases hb
theorem mW_seta {ci : Nat} {fd : List (Nat × Nat)} {cI cZ : ClassId} {α : Nat → Nat} {σ : mS} {k q0 i : Nat} {x : Int32} (h : 2 ≤ fcode fd k) (hq : (mks fd)[q0]? = some k) :
    (mW ci fd cI cZ α σ).set (q0 + 1) (α k, .inl (if fcode fd k = 3 then cZ else cI, flen fd k, .inl (upd (σ k) i x))) = mW ci fd cI cZ α (mU σ k i x) := by
  unfold mW
  rw [List.set_cons_succ]
  congr 1
  · congr 3
    unfold mflds
    refine List.map_congr_left fun k' _ => ?_
    by_cases e : k' = k
    · rw [mfv_ne (Or.inr (e ▸ h))]
    · rw [mfv_ne (Or.inl e)]
  · have he : (α k, Sum.inl (if fcode fd k = 3 then cZ else cI, flen fd k, .inl (upd (σ k) i x))) = mcell fd cI cZ α (mU σ k i x) k := by
      unfold mcell
      rw [mU_eq]
    rw [he]
    refine m_set_map (mks fd) q0 k (mks_nodup fd) hq fun k' _ hne => ?_
    unfold mcell
    rw [mU_ne hne]
theorem mW_setf {ci : Nat} {fd : List (Nat × Nat)} {cI cZ : ClassId} {α : Nat → Nat} {σ : mS} {k : Nat} {x : Int32} (hk : k < fd.length) (h : fcode fd k < 2) :
    (mW ci fd cI cZ α σ).set 0 (α 99, .inr (ci, (mflds fd α σ).set k (.int x))) = mW ci fd cI cZ α (mU σ k 0 x) := by
  unfold mW
  rw [List.set_cons_zero]
  congr 1
  · congr 3
    unfold mflds
    have he : Value.int x = (fun k => mval α (mfv fd (mU σ k 0 x) k)) k := by
      have hb : Nat.ble 2 (fcode fd k) = false := by
        cases hb : Nat.ble 2 (fcode fd k)
        · rfl
        · exact absurd (Nat.ble_eq.mp hb) (by omega)
      simp [mfv, hb, mval, mU_eq, upd]
    have he2 : Value.int x = (fun k' => mval α (mfv fd (mU σ k 0 x) k')) k := he
    rw [he2]
    refine m_set_map (f := fun k => mval α (mfv fd σ k)) (g := fun k' => mval α (mfv fd (mU σ k 0 x) k')) (List.range fd.length) k k List.nodup_range (by simp [hk]) fun k' _ hne => ?_
    show mval α (mfv fd σ k') = mval α (mfv fd (mU σ k 0 x) k')
    rw [mfv_ne (Or.inl hne)]
  · refine List.map_congr_left fun k' hk' => ?_
    have hc := mks_code hk'
    unfold mcell
    rw [mU_ne (fun e => by subst e; omega)]
def mlv (α : Nat → Nat) (L : mL) : List (Nat × Value) := (List.range L.length).filterMap (fun i => match L[i]? with
  | some (some v) => some (i, mval α v)
  | _ => none)
theorem mlv_in {α : Nat → Nat} {L : mL} {i : Nat} {v : mv} (h : L[i]? = some (some v)) : (i, mval α v) ∈ mlv α L := by
  refine List.mem_filterMap.mpr ⟨i, List.mem_range.mpr (List.getElem?_eq_some_iff.mp h).1, ?_⟩
  simp [h]
theorem mlv_of {α : Nat → Nat} {L : mL} {q : Nat × Value} (h : q ∈ mlv α L) : ∃ v, L[q.1]? = some (some v) ∧ q.2 = mval α v := by
  obtain ⟨i, -, hi⟩ := List.mem_filterMap.mp h
  split at hi
  · rename_i v hv
    cases hi
    exact ⟨v, hv, rfl⟩
  · cases hi
def mLok (α : Nat → Nat) (ls : Array Slot) (nL : Nat) (L : mL) : Prop := L.length ≤ nL ∧ lv_has ls nL (mlv α L)
theorem mLok.at {α : Nat → Nat} {ls : Array Slot} {nL : Nat} {L : mL} (h : mLok α ls nL L) {i : Nat} {v : mv} (hv : L[i]? = some (some v)) : ls[i]? = some (.val (mval α v)) := h.2.2.2 _ (mlv_in hv)
theorem mLok.set {α : Nat → Nat} {ls ls' : Array Slot} {nL : Nat} {L : mL} {i : Nat} {x : Int32} (hi : i < L.length) (hn : L.length ≤ nL) (h : lv_has ls' nL ((i, Value.int x) :: (mlv α L).filter (fun q => !(q.1 == i) && !(q.1 + 1 == i && q.2.category == 2)))) : mLok α ls' nL (L.set i (some (.inl x))) := by
  refine ⟨by rw [List.length_set]; exact hn, h.1, h.2.1, fun q hq => h.2.2 q ?_⟩
  obtain ⟨v, h1, h2⟩ := mlv_of hq
  rw [List.getElem?_set] at h1
  obtain ⟨j, w⟩ := q
  dsimp only at h1 h2
  by_cases e : i = j
  · subst e
    rw [if_pos rfl, if_pos hi] at h1
    cases h1
    rw [h2]
    exact List.mem_cons_self
  · rw [if_neg e] at h1
    refine List.mem_cons_of_mem _ (List.mem_filter.mpr ⟨by rw [h2]; exact mlv_in h1, ?_⟩)
    have hc : (w.category == 2) = false := by rw [h2, mval_cat]; rfl
    have hj : (j == i) = false := by simpa using fun q => e q.symm
    simp [hc, hj]
theorem mLok.mask {α : Nat → Nat} {ls : Array Slot} {nL : Nat} {L : mL} (mk : List Bool) (h : mLok α ls nL L) : mLok α ls nL (mmask mk L) := by
  refine ⟨Nat.le_trans (by unfold mmask; rw [List.length_zipWith]; exact Nat.min_le_right _ _) h.1, h.2.1, h.2.2.1, fun q hq => h.2.2.2 q ?_⟩
  obtain ⟨v, h1, h2⟩ := mlv_of hq
  obtain ⟨j, w⟩ := q
  dsimp only at h1 h2
  rw [h2]
  refine mlv_in ?_
  unfold mmask at h1
  rw [List.getElem?_zipWith] at h1
  split at h1
  · rename_i b u hb hu
    rw [hu]
    cases b
    · cases h1
    · cases h1
      rfl
  · cases h1
def mRm (d : Nat) : Room := { frames := d, cells := 0, slots := 0, locals := 28 * d }
def mArgs (α : Nat → Nat) (inst : Bool) (vs : List Int32) : List Value := match inst with
  | true => .ref (α 99) :: vs.map Value.int
  | false => vs.map Value.int
def mQ (Q : Option Int32 → mS → Prop) (B : mS → State → Prop) (A : Nat → Prop) : Array Value → State → Outcome → State → Prop := fun _ st oc t => (∃ (r : Option Int32) (u : mS), oc = .returned (r.map Value.int) ∧ Q r u ∧ B u t) ∧ va_F A st t
/-- a method's contract: if T vs σ Q, then from the world σ with arguments vs it returns, in a world and with an answer that Q holds of -/
def mMet (cl : List vw_C) (ci : Nat) (fd : List (Nat × Nat)) (d : Nat) (y : MethodName) (cc : ByteArray) (nL : Nat) (ret : Option FieldType) (inst : Bool) (T : mT) : Prop :=
  ∀ (l : Launch) (D : va_G) (cI cZ : ClassId) (α : Nat → Nat) (sz : Nat) (vs : List Int32) (σ : mS) (Q : Option Int32 → mS → Prop), T vs σ Q →
    Met l y (ws_ y cc nL ret) (mRm d) (va_Pc (mArgs α inst vs) (fun U => U.heap.size = sz ∧ va_P D cl (mW ci fd cI cZ α σ) U.heap ∧ va_K D cl [(cI, .int), (cZ, .boolean)] U ∧ va_D (fun _ => True) (mW ci fd cI cZ α σ)))
      (mQ Q (fun u t => va_P D cl (mW ci fd cI cZ α u) t.heap ∧ va_K D cl [(cI, .int), (cZ, .boolean)] t ∧ va_D (va_A (mW ci fd cI cZ α σ) sz) (mW ci fd cI cZ α u)) (va_A (mW ci fd cI cZ α σ) sz)) 0 0 (va_A (mW ci fd cI cZ α σ) sz)
/-- a class as the mini machine takes it -/
def mKd (cl : List vw_C) (ci : Nat) (C : String) (T : u_T) (N : Nat) (ty : Nat → FieldType) (fd : List (Nat × Nat)) (fl : List (Nat × Nat)) : Prop :=
  cl[ci]? = some (C, T, N) ∧ fd.length = N ∧ (∀ w ∈ u_ws C T N, w ∈ lw_all) ∧ (∀ k, k < N → parseFieldDescriptor (T k).2.2.1 = some (ty k)) ∧ (∀ a, a < N → ∀ b, b < N → a ≠ b → (T a).2.1 ≠ (T b).2.1) ∧
  (∀ q ∈ fl, q.2 < N ∧ Jvm.Cond.fieldLink C q.1 C (T q.2).2.1 (T q.2).2.2.1 ∈ lw_all) ∧ (∀ k, k < N → (T k).1 = C) ∧ (∀ k, k < N → fcode fd k = 0 → (T k).2.2.2 = false ∧ ty k = .int) ∧ (∀ k, k < N → fcode fd k = 1 → (T k).2.2.2 = false ∧ ty k = .boolean)
/-- a call site: the callee's contract and its words -/
def mCallOK (cl : List vw_C) (ci : Nat) (C : String) (fd : List (Nat × Nat)) (d : Nat) (q : Nat × Nat × Bool × mT) : Prop :=
  ∃ (y : MethodName) (cc : ByteArray) (nL : Nat) (ret : Option FieldType) (d' : Nat), mMet cl ci fd d' y cc nL ret q.2.2.1 q.2.2.2 ∧ d' + 1 ≤ d ∧ nL ≤ 9 ∧
    (y.cls = C ∧ y.cls ≠ "java/lang/invoke/MethodHandle" ∧ y.cls ≠ "java/lang/invoke/VarHandle" ∧ (parseMethodDescriptor y.desc).map (fun d => d.parameters.length) = some q.2.1) ∧
    Jvm.Cond.methodLink C q.1 y ∈ lw_all ∧ Jvm.Cond.code y cc nL ret ∈ lw_all ∧ Jvm.Cond.initialized C ∈ lw_all ∧
    (match q.2.2.1 with
      | true => Jvm.Cond.instanceMethod y ∈ lw_all ∧ Jvm.Cond.selects C y y ∈ lw_all
      | false => Jvm.Cond.static y ∈ lw_all)
section MM
variable {p : Program} {l : Launch} {e : Env} {R : Room} {s : State} {m : MethodId} {args : Array Value} {below : List Frame} {meth : Method} {c : Code} {H : Heap} {locs : List Loc} {cells slots : Nat} {Q : State → Prop}
variable {pc : Nat} {ls : Array Slot} {rest st0 : List Value} {a : Array Value} {A0 A1 : Nat → Prop} {H0 : Heap} {mc ms : Nat} {free : Addr → Prop}
theorem m_call {post : Option Int32 → mS → Prop} {B : mS → State → Prop} (hr : va_Run p l e R s m args below meth c H locs cells slots mc ms (F0 m pc ls st0) rest (mQ post B A1 a) free) (hS : va_S A0 H0 H locs) (hA : ∀ q, q < H.size → A1 q → A0 q) (hf : ∀ q, free q → A0 q)
    (kk : ∀ (r : Option Int32) (u : mS) (t : State) (H1 : Heap) (locs1 : List Loc), t.heap = H1 → s.vm.Alike t.vm → post r u → B u t → va_S A0 H0 H1 locs1 → W p l e R s m args below meth c H1 locs1 (cells + mc) (slots + ms) Q (F0 m (pc + 3) ls ((r.map Value.int).toList ++ rest))) : W p l e R s m args below meth c H locs cells slots Q (F0 m pc ls st0) := by
  intro T hT X
  obtain ⟨v, st₀, t, T', L, h0, X', hL, e1, e2, ⟨⟨r, u, hv, hp, hb⟩, hz, hk⟩, st⟩ := hr T hT X
  cases hv
  rw [h0] at hz hk
  obtain ⟨t2, a1, b1⟩ := kk r u t T'.heap (locs ++ L) e1.symm (by rw [← e2]; exact X'.warmed.alike) hp hb
    ⟨Nat.le_trans hS.1 (by rw [e1]; exact hz), fun q h1 h2 => by rw [e1, hk q (Nat.lt_of_lt_of_le h1 hS.1) (fun z => h2 (hA q (Nat.lt_of_lt_of_le h1 hS.1) z))]; exact hS.2.1 q h1 h2, fun q hq => by
      rcases List.mem_append.mp hq with h | h
      · exact hS.2.2 q h
      · exact hf _ (hL q h)⟩ T' rfl X'
  exact ⟨t2, st t2 a1, b1⟩
end MM
theorem m_cats (α : Nat → Nat) (r : List mv) : ((r.map (mval α)).map fun v => v.category).sum = r.length := by
  induction r with
  | nil => rfl
  | cons a t ih =>
    simp only [List.map_cons, List.sum_cons, ih, mval_cat, List.length_cons]
    omega
theorem m_nar {x : Int32} (h : x = 0 ∨ x = 1) : narrow .boolean (.int x) = .int x := by
  rcases h with rfl | rfl <;> rfl
theorem m_fit {x : Int32} (h : x = 0 ∨ x = 1) : fits .boolean (.int x) = true := by
  rcases h with rfl | rfl <;> rfl
section MG
variable {p : Program} {l : Launch} {e : Env} {R : Room} {s : State} {m : MethodId} {args : Array Value} {below : List Frame} {meth : Method} {c : Code}
variable {D : va_G} {cl : List vw_C} {ci : Nat} {C : String} {T : u_T} {N : Nat} {ty : Nat → FieldType} {tb : List (Nat × Instr × Int32 × Nat)} {fd fl : List (Nat × Nat)} {ret : Option FieldType} {cs : List (Nat × Nat × Bool × mT)} {cuts : List (Nat × List Bool)}
variable {cI cZ : ClassId} {α : Nat → Nat} {A : Nat → Prop} {nL d : Nat} {cc : ByteArray} {Qr : Option Int32 → mS → Prop}
def mGd (p : Program) (l : Launch) (e : Env) (R : Room) (s : State) (m : MethodId) (args : Array Value) (below : List Frame) (meth : Method) (c : Code) (Qs : State → Prop) (D : va_G) (cl : List vw_C) (ci : Nat) (fd : List (Nat × Nat)) (cI cZ : ClassId) (α : Nat → Nat) (A : Nat → Prop) (nL : Nat) : Nat → mL → List mv → mS → Prop := fun pc L st σ =>
  ∀ (H : Heap) (locs : List Loc) (ls : Array Slot), va_P D cl (mW ci fd cI cZ α σ) H → va_D A (mW ci fd cI cZ α σ) → va_S A s.heap H locs → mLok α ls nL L → W p l e R s m args below meth c H locs 0 0 Qs (F0 m pc ls (st.map (mval α)))
abbrev mB (D : va_G) (cl : List vw_C) (ci : Nat) (fd : List (Nat × Nat)) (cI cZ : ClassId) (α : Nat → Nat) (A : Nat → Prop) : mS → State → Prop := fun u t => va_P D cl (mW ci fd cI cZ α u) t.heap ∧ va_K D cl [(cI, .int), (cZ, .boolean)] t ∧ va_D A (mW ci fd cI cZ α u)
set_option maxHeartbeats 4000000 in
theorem mstep_ok (κ : mKd cl ci C T N ty fd fl) (hx : p.tables.exec = Jvm.exec) (hb : c.code = cc) (hr : meth.sig.returnType = ret) (hml : c.maxLocals = nL) (hlocks : meth.locks = false) (hown : s.vm.findClass C = some m.cls) (hts : ∀ w ∈ lw_all, w.before args s = true) (hK : va_K D cl [(cI, .int), (cZ, .boolean)] s) (hA : ∀ q : Nat, s.heap.size ≤ q → A q)
    (hRf : d ≤ R.frames) (hRl : 28 * d ≤ R.locals) (htb : ∀ q ∈ tb, mchk cc q) (hcs : ∀ q ∈ cs, mCallOK cl ci C fd d q)
    {K : Nat → mL → List mv → mS → Prop} (hG : ∀ pc L st σ, K pc L st σ → mGd p l e R s m args below meth c (MQ below (mQ Qr (mB D cl ci fd cI cZ α A) A) args s 0 0 A) D cl ci fd cI cZ α A nL pc L st σ)
    {pc : Nat} {L : mL} {st : List mv} {σ : mS} (h : mstep (tb, fl, fd, ret, cs, cuts) K Qr pc L st σ) :
    mGd p l e R s m args below meth c (MQ below (mQ Qr (mB D cl ci fd cI cZ α A) A) args s 0 0 A) D cl ci fd cI cZ α A nL pc L st σ := by
  obtain ⟨k1, k2, k3, k4, k5, k6, k7, k8, k9⟩ := κ
  unfold mstep at h
  split at h
  case h_2 => exact h.elim
  rename_i q hq
  obtain ⟨I, v, t⟩ := q
  have hd := htb _ (m_lookup hq)
  intro H locs ls hP hD hS hL
  cases I
  case iconst n => exact lv_iconst hx hb hd.1 hd.2 (hG _ _ _ _ h H locs ls hP hD hS hL)
  case bipush n => exact lv_bipush hx hb hd.1 hd.2 (hG _ _ _ _ h H locs ls hP hD hS hL)
  case sipush n => exact lv_sipush hx hb hd.1 hd.2 (hG _ _ _ _ h H locs ls hP hD hS hL)
  case iload_n i =>
    obtain ⟨x, h1, h⟩ := mGetI_ok h
    exact lv_iload_n hx hb hd.1 rfl (hL.at h1) (hG _ _ _ _ h H locs ls hP hD hS hL)
  case iload i =>
    obtain ⟨x, h1, h⟩ := mGetI_ok h
    exact lv_iload hx hb hd.1 (hL.at h1) (hG _ _ _ _ h H locs ls hP hD hS hL)
  case aload_n i =>
    obtain ⟨x, h1, h⟩ := mGetR_ok h
    exact lv_aload_n hx hb hd.1 rfl (hL.at h1) (hG _ _ _ _ h H locs ls hP hD hS hL)
  case istore_n i =>
    obtain ⟨x, r, rfl, hh⟩ := mI1_ok h
    clear h
    have h := hh
    clear hh
    obtain ⟨h1, h⟩ := mSet_ok h
    exact lv_istore_n hx hb hd.1 rfl hL.2 (Nat.lt_of_lt_of_le h1 hL.1) rfl (fun ls' hl' => hG _ _ _ _ h H locs ls' hP hD hS (mLok.set (ls := ls) h1 hL.1 hl'))
  case istore i =>
    obtain ⟨x, r, rfl, hh⟩ := mI1_ok h
    clear h
    have h := hh
    clear hh
    obtain ⟨h1, h⟩ := mSet_ok h
    exact lv_istore hx hb hd.1 hL.2 (Nat.lt_of_lt_of_le h1 hL.1) rfl (fun ls' hl' => hG _ _ _ _ h H locs ls' hP hD hS (mLok.set (ls := ls) h1 hL.1 hl'))
  case iinc i n =>
    obtain ⟨x, h0, h⟩ := mGetI_ok h
    obtain ⟨h1, h⟩ := mSet_ok h
    obtain ⟨k, hk⟩ := List.getElem?_of_mem (mlv_in (α := α) h0)
    exact lv_iinc (x := x) hx hb hd.1 hL.2 hk (by rw [hd.2]) (Nat.lt_of_lt_of_le h1 hL.1) rfl (fun ls' hl' => hG _ _ _ _ h H locs ls' hP hD hS (mLok.set (ls := ls) h1 hL.1 hl'))
  case iadd =>
    obtain ⟨x, y, r, rfl, h⟩ := mI2_ok h
    exact lv_iadd hx hb hd.1 (hG _ _ _ _ h H locs ls hP hD hS hL)
  case isub =>
    obtain ⟨x, y, r, rfl, h⟩ := mI2_ok h
    exact lv_isub hx hb hd.1 (hG _ _ _ _ h H locs ls hP hD hS hL)
  case imul =>
    obtain ⟨x, y, r, rfl, h⟩ := mI2_ok h
    exact lv_imul hx hb hd.1 (hG _ _ _ _ h H locs ls hP hD hS hL)
  case iand =>
    obtain ⟨x, y, r, rfl, h⟩ := mI2_ok h
    exact lv_iand hx hb hd.1 (hG _ _ _ _ h H locs ls hP hD hS hL)
  case ior =>
    obtain ⟨x, y, r, rfl, h⟩ := mI2_ok h
    exact lv_ior hx hb hd.1 (hG _ _ _ _ h H locs ls hP hD hS hL)
  case ixor =>
    obtain ⟨x, y, r, rfl, h⟩ := mI2_ok h
    exact lv_ixor hx hb hd.1 (hG _ _ _ _ h H locs ls hP hD hS hL)
  case idiv =>
    obtain ⟨x, y, r, rfl, h1, h⟩ := mI2_ok h
    exact lv_idiv hx hb hd.1 h1 (hG _ _ _ _ h H locs ls hP hD hS hL)
  case irem =>
    obtain ⟨x, y, r, rfl, h1, h⟩ := mI2_ok h
    exact lv_irem hx hb hd.1 h1 (hG _ _ _ _ h H locs ls hP hD hS hL)
  case ishl =>
    obtain ⟨x, y, r, rfl, h⟩ := mI2_ok h
    exact lv_ishl hx hb hd.1 (hG _ _ _ _ h H locs ls hP hD hS hL)
  case ishr =>
    obtain ⟨x, y, r, rfl, h⟩ := mI2_ok h
    exact lv_ishr hx hb hd.1 (hG _ _ _ _ h H locs ls hP hD hS hL)
  case dup =>
    obtain ⟨a, r, rfl, h⟩ := mV1_ok h
    exact lv_dup hx hb hd.1 (mval_cat α a) (hG _ _ _ _ h H locs ls hP hD hS hL)
  case pop =>
    obtain ⟨a, r, rfl, h⟩ := mV1_ok h
    exact lv_pop hx hb hd.1 (mval_cat α a) (hG _ _ _ _ h H locs ls hP hD hS hL)
  case dup2 =>
    obtain ⟨a, b, r, rfl, h⟩ := mV2_ok h
    exact lv_dup2_11 hx hb hd.1 (mval_cat α a) (mval_cat α b) (hG _ _ _ _ h H locs ls hP hD hS hL)
  case goto n => exact lv_goto hx hb hd.1 hd.2 (hG _ _ _ _ h H locs ls hP hD hS hL)
  case ifCond cnd n =>
    obtain ⟨x, r, rfl, h⟩ := mI1_ok h
    cases cnd
    case eq => exact lv_if_eq hx hb hd.1 hd.2 (fun q => hG _ _ _ _ (h.1 q) H locs ls hP hD hS hL) (fun q => hG _ _ _ _ (h.2 q) H locs ls hP hD hS hL)
    case ne => exact lv_if_ne hx hb hd.1 hd.2 (fun q => hG _ _ _ _ (h.1 q) H locs ls hP hD hS hL) (fun q => hG _ _ _ _ (h.2 q) H locs ls hP hD hS hL)
    case lt => exact lv_if_lt hx hb hd.1 hd.2 (fun q => hG _ _ _ _ (h.1 q) H locs ls hP hD hS hL) (fun q => hG _ _ _ _ (h.2 q) H locs ls hP hD hS hL)
    case ge => exact lv_if_ge hx hb hd.1 hd.2 (fun q => hG _ _ _ _ (h.1 q) H locs ls hP hD hS hL) (fun q => hG _ _ _ _ (h.2 q) H locs ls hP hD hS hL)
    case gt => exact lv_if_gt hx hb hd.1 hd.2 (fun q => hG _ _ _ _ (h.1 q) H locs ls hP hD hS hL) (fun q => hG _ _ _ _ (h.2 q) H locs ls hP hD hS hL)
    case le => exact lv_if_le hx hb hd.1 hd.2 (fun q => hG _ _ _ _ (h.1 q) H locs ls hP hD hS hL) (fun q => hG _ _ _ _ (h.2 q) H locs ls hP hD hS hL)
  case if_icmp cnd n =>
    obtain ⟨x, y, r, rfl, h⟩ := mI2_ok h
    cases cnd
    case eq => exact lv_icmp_eq hx hb hd.1 hd.2 (fun q => hG _ _ _ _ (h.1 q) H locs ls hP hD hS hL) (fun q => hG _ _ _ _ (h.2 q) H locs ls hP hD hS hL)
    case ne => exact lv_icmp_ne hx hb hd.1 hd.2 (fun q => hG _ _ _ _ (h.1 q) H locs ls hP hD hS hL) (fun q => hG _ _ _ _ (h.2 q) H locs ls hP hD hS hL)
    case lt => exact lv_icmp_lt hx hb hd.1 hd.2 (fun q => hG _ _ _ _ (h.1 q) H locs ls hP hD hS hL) (fun q => hG _ _ _ _ (h.2 q) H locs ls hP hD hS hL)
    case ge => exact lv_icmp_ge hx hb hd.1 hd.2 (fun q => hG _ _ _ _ (h.1 q) H locs ls hP hD hS hL) (fun q => hG _ _ _ _ (h.2 q) H locs ls hP hD hS hL)
    case gt => exact lv_icmp_gt hx hb hd.1 hd.2 (fun q => hG _ _ _ _ (h.1 q) H locs ls hP hD hS hL) (fun q => hG _ _ _ _ (h.2 q) H locs ls hP hD hS hL)
    case le => exact lv_icmp_le hx hb hd.1 hd.2 (fun q => hG _ _ _ _ (h.1 q) H locs ls hP hD hS hL) (fun q => hG _ _ _ _ (h.2 q) H locs ls hP hD hS hL)
  case getfield i =>
    obtain ⟨o, r, rfl, hh⟩ := mR1_ok h
    clear h
    have h := hh
    clear hh
    obtain ⟨k, hk, h⟩ := mFl_ok h
    obtain ⟨ho, h⟩ := mIs_ok h
    have ho : o = 99 := Nat.eq_of_beq_eq_true ho
    subst ho
    obtain ⟨hkN, hlink⟩ := k6 _ hk
    dsimp only at hkN hlink
    refine va_get (C := C) (T := T) (N := N) (ci := ci) (ref := C) (a := α 99) (v := mval α (mfv fd σ k)) (fs := mflds fd α σ) (ws := mW ci fd cI cZ α σ) hx hb hts k3 hown hK hP 0 rfl k1 k hkN (hts _ hlink) (fun x hx => by rw [k7 k hkN] at hx; exact hx) ?_ hd.1 (hG _ _ _ _ h H locs ls hP hD hS hL)
    unfold mflds
    rw [List.getElem?_map, List.getElem?_range (by rw [k2]; exact hkN)]
    rfl
  case putfield i =>
    obtain ⟨x, o, r, rfl, hh⟩ := mIR_ok h
    clear h
    have h := hh
    clear hh
    obtain ⟨k, hk, h⟩ := mFl_ok h
    obtain ⟨ho, h⟩ := mIs_ok h
    have ho : o = 99 := Nat.eq_of_beq_eq_true ho
    subst ho
    obtain ⟨hkN, hlink⟩ := k6 _ hk
    dsimp only at hkN hlink
    have key : ∀ (tt : FieldType), fcode fd k < 2 → (T k).2.2.2 = false → ty k = tt → narrow tt (.int x) = .int x → fits tt (.int x) = true → K (pc + 3) L r (mU σ k 0 x) → W p l e R s m args below meth c H locs 0 0 (MQ below (mQ Qr (mB D cl ci fd cI cZ α A) A) args s 0 0 A) (F0 m pc ls ((Sum.inl x :: Sum.inr 99 :: r).map (mval α))) := by
      intro tt hc hfin hty hn hf hKK
      refine va_put (C := C) (T := T) (N := N) (ci := ci) (ref := C) (a := α 99) (v := .int x) (ty := tt) (fs := mflds fd α σ) (ws := mW ci fd cI cZ α σ) hx hb hts k3 ty k4 k5 hown hK hP hD hS 0 rfl k1 k hkN (hts _ hlink) (fun x hx => by rw [k7 k hkN] at hx; exact hx) hfin (by rw [k4 k hkN, hty]) hn hf (by unfold mflds; rw [List.length_map, List.length_range, k2]; exact hkN) hd.1 (fun H1 locs1 hP1 hD1 hS1 => ?_)
      rw [mW_setf (by rw [k2]; exact hkN) hc] at hP1 hD1
      exact hG _ _ _ _ hKK H1 locs1 ls hP1 hD1 hS1 hL
    split at h
    · rename_i hc
      have hc : fcode fd k = 0 := hc
      exact key .int (by rw [hc]; decide) (k8 k hkN hc).1 (k8 k hkN hc).2 rfl rfl h
    · rename_i hc
      have hc : fcode fd k = 1 := hc
      exact key .boolean (by rw [hc]; decide) (k9 k hkN hc).1 (k9 k hkN hc).2 (m_nar h.1) (m_fit h.1) h.2
    · exact h.elim
  case iaload =>
    obtain ⟨i, k, r, rfl, hh⟩ := mIR_ok h
    clear h
    have h := hh
    clear hh
    obtain ⟨hc, h1, h⟩ := mIs_ok h
    have hc : fcode fd k = 2 := Nat.eq_of_beq_eq_true hc
    obtain ⟨q0, hq0, hw⟩ := mW_arr (ci := ci) (cI := cI) (cZ := cZ) (α := α) (σ := σ) (k := k) (fd := fd) (by rw [hc]; decide)
    unfold mcell at hw
    rw [if_neg (by rw [hc]; decide)] at hw
    exact va_iald hx hb hK hP (q0 + 1) 0 hw rfl h1 hd.1 (hG _ _ _ _ (h _ rfl) H locs ls hP hD hS hL)
  case baload =>
    obtain ⟨i, k, r, rfl, hh⟩ := mIR_ok h
    clear h
    have h := hh
    clear hh
    obtain ⟨hc, h1, h⟩ := mIs_ok h
    have hc : fcode fd k = 3 := Nat.eq_of_beq_eq_true hc
    obtain ⟨q0, hq0, hw⟩ := mW_arr (ci := ci) (cI := cI) (cZ := cZ) (α := α) (σ := σ) (k := k) (fd := fd) (by rw [hc]; decide)
    unfold mcell at hw
    rw [if_pos hc] at hw
    exact va_zald hx hb hK hP (q0 + 1) 1 hw rfl h1 hd.1 (hG _ _ _ _ (h _ rfl) H locs ls hP hD hS hL)
  case iastore =>
    obtain ⟨x, i, k, r, rfl, hh⟩ := mIIR_ok h
    clear h
    have h := hh
    clear hh
    obtain ⟨hc, h1, h⟩ := mIs_ok h
    have hc : fcode fd k = 2 := Nat.eq_of_beq_eq_true hc
    have hc2 : 2 ≤ fcode fd k := by rw [hc]; decide
    obtain ⟨q0, hq0, hw⟩ := mW_arr (ci := ci) (cI := cI) (cZ := cZ) (α := α) (σ := σ) (k := k) (fd := fd) hc2
    unfold mcell at hw
    have hset := mW_seta (ci := ci) (cI := cI) (cZ := cZ) (α := α) (σ := σ) (i := i.toNatClampNeg) (x := x) hc2 hq0
    rw [if_neg (show ¬ fcode fd k = 3 by rw [hc]; decide)] at hw hset
    refine va_iast hx hb hK hP hD hS (q0 + 1) 0 hw rfl h1 hd.1 (fun H1 locs1 hP1 hD1 hS1 => ?_)
    rw [hset] at hP1 hD1
    exact hG _ _ _ _ h H1 locs1 ls hP1 hD1 hS1 hL
  case bastore =>
    obtain ⟨x, i, k, r, rfl, hh⟩ := mIIR_ok h
    clear h
    have h := hh
    clear hh
    obtain ⟨hc, h1, h⟩ := mIs_ok h
    have hc : fcode fd k = 3 := Nat.eq_of_beq_eq_true hc
    have hc2 : 2 ≤ fcode fd k := by rw [hc]; decide
    obtain ⟨q0, hq0, hw⟩ := mW_arr (ci := ci) (cI := cI) (cZ := cZ) (α := α) (σ := σ) (k := k) (fd := fd) hc2
    unfold mcell at hw
    have hset := mW_seta (ci := ci) (cI := cI) (cZ := cZ) (α := α) (σ := σ) (i := i.toNatClampNeg) (x := x &&& 1) hc2 hq0
    rw [if_pos hc] at hw hset
    refine va_zast hx hb hK hP hD hS (q0 + 1) 1 hw rfl h1 hd.1 (fun H1 locs1 hP1 hD1 hS1 => ?_)
    rw [show vp_nar .boolean x = x &&& 1 from rfl, hset] at hP1 hD1
    exact hG _ _ _ _ h H1 locs1 ls hP1 hD1 hS1 hL
  case ireturn =>
    obtain ⟨x, tt, rfl, hrt, hn, h1⟩ := mRI_ok h
    exact W.zret hx hb (hr.trans hrt) hn (fun t ht hW => ⟨⟨some _, σ, rfl, h1, by rw [ht]; exact hP, va_K.moved hW.alike hK, hD⟩, hS.F ht⟩) hS.2.2 hd.1 hlocks
  case return_ =>
    obtain ⟨rfl, hrt, h1⟩ := mRV_ok h
    exact W.vret hx hb (hr.trans hrt) (fun t ht hW => ⟨⟨none, σ, rfl, h1, by rw [ht]; exact hP, va_K.moved hW.alike hK, hD⟩, hS.F ht⟩) hS.2.2 hd.1 hlocks
  case invokevirtual i =>
    obtain ⟨n, T', vs, r, hlk, hpop, hlen, hcall⟩ := mCV_ok h
    clear h
    obtain ⟨y, cc', nL', ret', d', hM, hd', hn9, hdd, hlink, hcode, hini, hinst, hsel⟩ := hcs _ (m_lookup hlk)
    dsimp only at hM hdd hlink
    obtain ⟨ws, rfl, rfl, hwl⟩ := mPop_ok _ _ _ _ _ hpop
    have hFc : ∀ q, va_A (mW ci fd cI cZ α σ) H.size q → A q := by
      intro q hq
      rcases hq with ⟨k, e, hq⟩ | hq
      · exact hD.2 k (q, e) hq
      · exact hA q (Nat.le_trans hS.1 hq)
    have hCW : CallW R s args C C i y cc' nL' ret' (ws_ y cc' nL' ret') (mRm d') 0 0 n := cwV n hts (lw_V hlink hinst hsel hini hcode) rfl rfl rfl hdd ⟨show d' + 1 ≤ R.frames by omega, show 8 + (nL' + 11) + 28 * d' ≤ R.locals by omega⟩
    have hM1 := hM l D cI cZ α H.size (ws.reverse ++ []) σ _ hcall
    refine m_call (va_runV (C := C) (b := α 99) (As := (ws.reverse ++ []).map Value.int) (rest := r.map (mval α)) ⟨hx, hb, hml, hown, hts⟩ hM1 hCW ⟨fun a U g mk q => by obtain ⟨q0, q1, qP, qK, qD⟩ := q; exact ⟨q0, q1, qP, va_K.moved (u := U) (U := U.calling g mk a) (Vm.Alike.refl U.vm) qK, qD⟩, va_recv hK hP k1 (q0 := 0) rfl, fun U hU hW => ⟨rfl, by rw [hU], by rw [hU]; exact hP, va_K.moved hW.alike hK, hD.weaken (fun _ _ _ _ => trivial)⟩⟩ rfl (by simp [hwl]) hL.2.1 ?_ (lv_room (by rw [m_cats]; exact hlen)) hd.1 ⟨Nat.zero_le _, Nat.zero_le _⟩) hS (fun q _ hq => hFc q hq) hFc (fun x u t H1 locs1 ht hvm hw hB hS1 => ?_)
    · show ((ws.map Sum.inl ++ Sum.inr 99 :: r).map (mval α)) = ((ws.reverse ++ []).map Value.int).reverse ++ .ref (α 99) :: r.map (mval α)
      simp [mval]
    · obtain ⟨hP1, hK1, hD1⟩ := hB
      rw [ht] at hP1
      have hg := hG _ _ _ _ hw H1 locs1 ls hP1 (hD1.weaken (fun _ q _ hq => hFc q.1 hq)) hS1 hL
      cases x
      · exact hg
      · exact hg
  case invokestatic i =>
    obtain ⟨n, T', vs, r, hlk, hpop, hlen, hcall⟩ := mCS_ok h
    clear h
    obtain ⟨y, cc', nL', ret', d', hM, hd', hn9, hdd, hlink, hcode, hini, hstat⟩ := hcs _ (m_lookup hlk)
    dsimp only at hM hdd hlink
    obtain ⟨ws, rfl, rfl, hwl⟩ := mPop_ok _ _ _ _ _ hpop
    have hFc : ∀ q, va_A (mW ci fd cI cZ α σ) H.size q → A q := by
      intro q hq
      rcases hq with ⟨k, e, hq⟩ | hq
      · exact hD.2 k (q, e) hq
      · exact hA q (Nat.le_trans hS.1 hq)
    have hCW := va_cwS (R := R) (own := C) (index := i) (rm := mRm d') (mc := 0) (ms := 0) n hts (lw_S hlink hstat (by rw [hdd.1]; exact hini) hcode) rfl rfl rfl hdd.2 ⟨show d' + 1 ≤ R.frames by omega, show 8 + (nL' + 11) + 28 * d' ≤ R.locals by omega⟩
    have hM1 := hM l D cI cZ α H.size (ws.reverse ++ []) σ _ hcall
    refine m_call (va_runS (As := (ws.reverse ++ []).map Value.int) (rest := r.map (mval α)) ⟨hx, hb, hml, hown, hts⟩ hM1 hCW ⟨fun a U g mk q => by obtain ⟨q0, q1, qP, qK, qD⟩ := q; exact ⟨q0, q1, qP, va_K.moved (u := U) (U := U.calling g mk a) (Vm.Alike.refl U.vm) qK, qD⟩, fun U hU hW => ⟨rfl, by rw [hU], by rw [hU]; exact hP, va_K.moved hW.alike hK, hD.weaken (fun _ _ _ _ => trivial)⟩⟩ rfl (by simp [hwl]) hL.2.1 ?_ (lv_room (by rw [m_cats]; exact hlen)) hd.1 ⟨Nat.zero_le _, Nat.zero_le _⟩) hS (fun q _ hq => hFc q hq) hFc (fun x u t H1 locs1 ht hvm hw hB hS1 => ?_)
    · show ((ws.map Sum.inl ++ r).map (mval α)) = ((ws.reverse ++ []).map Value.int).reverse ++ r.map (mval α)
      simp [mval]
    · obtain ⟨hP1, hK1, hD1⟩ := hB
      rw [ht] at hP1
      have hg := hG _ _ _ _ hw H1 locs1 ls hP1 (hD1.weaken (fun _ q _ hq => hFc q.1 hq)) hS1 hL
      cases x
      · exact hg
      · exact hg
  all_goals exact False.elim h
end MG
def mL0 (nL : Nat) (inst : Bool) (vs : List Int32) : mL := match inst with
  | true => some (.inr 99) :: (vs.map (fun x => some (.inl x)) ++ List.replicate (nL - (vs.length + 1)) none)
  | false => vs.map (fun x => some (.inl x)) ++ List.replicate (nL - vs.length) none
theorem m_args_sl (α : Nat → Nat) (vs : List Int32) : lg_sl (vs.map Value.int) = vs.map (fun x => Slot.val (.int x)) := by
  induction vs with
  | nil => rfl
  | cons a t ih =>
    have : lg_sl (Value.int a :: t.map Value.int) = Slot.val (.int a) :: lg_sl (t.map Value.int) := by
      unfold lg_sl
      rw [List.flatMap_cons]
      rfl
    rw [List.map_cons, this, ih]
    rfl
theorem m_lv_args : ∀ (vs : List Int32) (i j : Nat) (x : Int32), vs[j]? = some x → (i + j, Value.int x) ∈ lv_args i (vs.map Value.int)
  | [], i, j, x, h => by simp at h
  | a :: t, i, 0, x, h => by
    simp only [List.getElem?_cons_zero, Option.some.injEq] at h
    subst h
    exact List.mem_cons_self
  | a :: t, i, j + 1, x, h => by
    simp only [List.getElem?_cons_succ] at h
    have := m_lv_args t (i + 1) j x h
    have e : lv_args i ((a :: t).map Value.int) = (i, Value.int a) :: lv_args (i + 1) (t.map Value.int) := by
      rw [List.map_cons]
      rfl
    rw [e]
    refine List.mem_cons_of_mem _ ?_
    rw [show i + (j + 1) = i + 1 + j by omega]
    exact this
theorem m_entry (α : Nat → Nat) (m : MethodId) (nL : Nat) (inst : Bool) (vs : List Int32) (hn : vs.length + 1 ≤ nL ∨ (inst = false ∧ vs.length ≤ nL)) :
    ∃ ls, entryFrame m (mArgs α inst vs).toArray nL = F0 m 0 ls [] ∧ mLok α ls nL (mL0 nL inst vs) := by
  cases inst with
  | false =>
    have hn : vs.length ≤ nL := by rcases hn with h | h <;> omega
    have hl := lv_entry (vs.map Value.int) (n := nL) (by rw [m_args_sl α, List.length_map]; exact hn)
    refine ⟨_, lg_entry_eq m (vs.map Value.int) nL, by simp [mL0]; omega, hl.1, hl.2.1, fun q hq => hl.2.2 q ?_⟩
    obtain ⟨v, h1, h2⟩ := mlv_of hq
    obtain ⟨j, w⟩ := q
    dsimp only at h1 h2
    subst h2
    have h1 : (vs.map (fun x => some (Sum.inl x : mv)) ++ List.replicate (nL - vs.length) none)[j]? = some (some v) := h1
    rcases Nat.lt_or_ge j vs.length with hj | hj
    · rw [List.getElem?_append_left (by rw [List.length_map]; exact hj), List.getElem?_map] at h1
      cases hx : vs[j]? with
      | none => rw [hx] at h1; cases h1
      | some x =>
        rw [hx] at h1
        cases h1
        have := m_lv_args vs 0 j x hx
        rw [Nat.zero_add] at this
        exact this
    · rw [List.getElem?_append_right (by rw [List.length_map]; exact hj), List.getElem?_replicate] at h1
      split at h1 <;> cases h1
  | true =>
    have hn : vs.length + 1 ≤ nL := by rcases hn with h | ⟨h, -⟩ <;> first | exact h | cases h
    have hsl : lg_sl (.ref (α 99) :: vs.map Value.int) = Slot.val (.ref (α 99)) :: vs.map (fun x => Slot.val (.int x)) := by
      have : lg_sl (Value.ref (α 99) :: vs.map Value.int) = Slot.val (.ref (α 99)) :: lg_sl (vs.map Value.int) := by
        unfold lg_sl
        rw [List.flatMap_cons]
        rfl
      rw [this, m_args_sl α]
    have hl := lv_entry (.ref (α 99) :: vs.map Value.int) (n := nL) (by rw [hsl, List.length_cons, List.length_map]; exact hn)
    refine ⟨_, lg_entry_eq m (.ref (α 99) :: vs.map Value.int) nL, by simp [mL0]; omega, hl.1, hl.2.1, fun q hq => hl.2.2 q ?_⟩
    obtain ⟨v, h1, h2⟩ := mlv_of hq
    obtain ⟨j, w⟩ := q
    dsimp only at h1 h2
    subst h2
    have h1 : (some (Sum.inr 99 : mv) :: (vs.map (fun x => some (Sum.inl x : mv)) ++ List.replicate (nL - (vs.length + 1)) none))[j]? = some (some v) := h1
    have e : lv_args 0 (.ref (α 99) :: vs.map Value.int) = (0, Value.ref (α 99)) :: lv_args 1 (vs.map Value.int) := rfl
    rw [e]
    cases j with
    | zero =>
      cases h1
      exact List.mem_cons_self
    | succ j =>
      rw [List.getElem?_cons_succ] at h1
      refine List.mem_cons_of_mem _ ?_
      rcases Nat.lt_or_ge j vs.length with hj | hj
      · rw [List.getElem?_append_left (by rw [List.length_map]; exact hj), List.getElem?_map] at h1
        cases hx : vs[j]? with
        | none => rw [hx] at h1; cases h1
        | some x =>
          rw [hx] at h1
          cases h1
          have := m_lv_args vs 1 j x hx
          rw [Nat.add_comm] at this
          exact this
      · rw [List.getElem?_append_right (by rw [List.length_map]; exact hj), List.getElem?_replicate] at h1
        split at h1 <;> cases h1
def mTb (cc : ByteArray) (tb : List (Nat × Instr × Int32 × Nat)) : Bool := tb.all (mchkB cc)
/-- A CONTRACT OUT OF THE MINI MACHINE -/
theorem mMet_of {cl : List vw_C} {ci : Nat} {C : String} {T : u_T} {N : Nat} {ty : Nat → FieldType} {tb : List (Nat × Instr × Int32 × Nat)} {fd fl : List (Nat × Nat)} {ret : Option FieldType} {cs : List (Nat × Nat × Bool × mT)} {cuts : List (Nat × List Bool)} {nL d : Nat} {cc : ByteArray} {y : MethodName} {inst : Bool} {Tm : mT}
    (κ : mKd cl ci C T N ty fd fl) (hy : plainName y.cls = true) (hyC : y.cls = C) (htb : mTb cc tb = true) (hcs : ∀ q ∈ cs, mCallOK cl ci C fd d q)
    (body : ∀ (G : Nat → mL → List mv → mS → Prop) (Q : Option Int32 → mS → Prop) (vs : List Int32) (σ : mS), mCl (tb, fl, fd, ret, cs, cuts) G Q → Tm vs σ Q → (vs.length + 1 ≤ nL ∨ (inst = false ∧ vs.length ≤ nL)) ∧ G 0 (mL0 nL inst vs) [] σ) :
    mMet cl ci fd d y cc nL ret inst Tm := by
  intro l D cI cZ α sz vs σ Q hT
  refine Met.ofW (cc := cc) (maxL := nL) (ret := ret) hy rfl ?_
  intro p e s m args below meth c s₁ B hml hv
  obtain ⟨rfl, hsz, hP, hK, hD0⟩ := hv
  have hts := atoms_spec (ws := ws_ y cc nL ret) B.pre
  have hts : ∀ w ∈ lw_all, w.before _ s = true := fun w h => hts w (List.mem_cons_of_mem _ h)
  have hown : s.vm.findClass C = some m.cls := hyC ▸ findClass_of_methodNamed B.named
  have hlocks := B.notSynchronized
  subst hsz
  have hD := hD0.self (sz := s.heap.size)
  have hA : ∀ q : Nat, s.heap.size ≤ q → va_A (mW ci fd cI cZ α σ) s.heap.size q := fun q h => Or.inr h
  have htb' : ∀ q ∈ tb, mchk cc q := fun q hq => mchk_of (List.all_eq_true.mp htb q hq)
  have hCl : mCl (tb, fl, fd, ret, cs, cuts) (mGd p l e (headSpec (ws_ y cc nL ret) (mRm d)).room s m (mArgs α inst vs).toArray below meth c (MQ below (mQ Q (mB D cl ci fd cI cZ α (va_A (mW ci fd cI cZ α σ) s.heap.size)) (va_A (mW ci fd cI cZ α σ) s.heap.size)) (mArgs α inst vs).toArray s 0 0 (va_A (mW ci fd cI cZ α σ) s.heap.size)) D cl ci fd cI cZ α (va_A (mW ci fd cI cZ α σ) s.heap.size) nL) Q := by
    intro n
    induction n with
    | zero => exact fun _ _ _ _ h => h.elim
    | succ n ih =>
      intro pc L st τ h
      refine mstep_ok κ B.exec B.bytes B.returns hml hlocks hown hts hK hA (Nat.le_refl d) (Nat.le_refl (28 * d)) htb' hcs (cuts := cuts) ?_ h
      intro pc L st τ h
      split at h
      · rename_i mk hmk
        intro H locs ls hP hD hS hL
        exact h H locs ls hP hD hS (hL.mask mk)
      · exact ih _ _ _ _ h
  obtain ⟨hn, hb⟩ := body _ Q vs σ hCl hT
  obtain ⟨ls, he, hl⟩ := m_entry α m nL inst vs hn
  rw [he]
  exact hb s.heap [] ls hP hD va_S.rf hl
end
section
/-! printed by gen/vc.py: the two classes, and each method's instruction table -/
set_option maxRecDepth 100000
def fdX0 : List (Nat × Nat) := [(2, 28), (2, 28), (2, 28), (2, 28), (3, 28), (2, 32), (0, 0), (0, 0), (0, 0), (2, 20), (2, 20), (2, 20), (0, 0), (2, 20), (2, 20), (2, 20), (0, 0), (0, 0), (2, 12), (2, 12), (2, 12), (0, 0), (2, 16), (2, 16), (2, 16), (3, 16), (2, 64), (0, 0), (2, 8), (0, 0), (2, 8), (2, 9), (2, 9)]
def flX0 : List (Nat × Nat) := [(7, 0), (13, 1), (16, 2), (19, 3), (22, 4), (26, 5), (95, 6), (87, 7), (101, 8), (29, 9), (32, 10), (35, 11), (108, 12), (38, 13), (41, 14), (44, 15), (150, 16), (153, 17), (47, 18), (50, 19), (53, 20), (159, 21), (56, 22), (59, 23), (62, 24), (65, 25), (68, 26), (175, 27), (71, 28), (178, 29), (74, 30), (77, 31), (80, 32)]
theorem flX0_ok : ∀ q ∈ flX0, q.2 < 33 ∧ Jvm.Cond.fieldLink RX0 q.1 RX0 (TX0 q.2).2.1 (TX0 q.2).2.2.1 ∈ lw_all := List.forall_mem_cons.mpr ⟨⟨by decide, q44⟩, List.forall_mem_cons.mpr ⟨⟨by decide, q45⟩, List.forall_mem_cons.mpr ⟨⟨by decide, q46⟩, List.forall_mem_cons.mpr ⟨⟨by decide, q47⟩, List.forall_mem_cons.mpr ⟨⟨by decide, q48⟩, List.forall_mem_cons.mpr ⟨⟨by decide, q49⟩, List.forall_mem_cons.mpr ⟨⟨by decide, q50⟩, List.forall_mem_cons.mpr ⟨⟨by decide, q51⟩, List.forall_mem_cons.mpr ⟨⟨by decide, q52⟩, List.forall_mem_cons.mpr ⟨⟨by decide, q53⟩, List.forall_mem_cons.mpr ⟨⟨by decide, q54⟩, List.forall_mem_cons.mpr ⟨⟨by decide, q55⟩, List.forall_mem_cons.mpr ⟨⟨by decide, q56⟩, List.forall_mem_cons.mpr ⟨⟨by decide, q57⟩, List.forall_mem_cons.mpr ⟨⟨by decide, q58⟩, List.forall_mem_cons.mpr ⟨⟨by decide, q59⟩, List.forall_mem_cons.mpr ⟨⟨by decide, q60⟩, List.forall_mem_cons.mpr ⟨⟨by decide, q61⟩, List.forall_mem_cons.mpr ⟨⟨by decide, q62⟩, List.forall_mem_cons.mpr ⟨⟨by decide, q63⟩, List.forall_mem_cons.mpr ⟨⟨by decide, q64⟩, List.forall_mem_cons.mpr ⟨⟨by decide, q65⟩, List.forall_mem_cons.mpr ⟨⟨by decide, q66⟩, List.forall_mem_cons.mpr ⟨⟨by decide, q67⟩, List.forall_mem_cons.mpr ⟨⟨by decide, q68⟩, List.forall_mem_cons.mpr ⟨⟨by decide, q69⟩, List.forall_mem_cons.mpr ⟨⟨by decide, q70⟩, List.forall_mem_cons.mpr ⟨⟨by decide, q71⟩, List.forall_mem_cons.mpr ⟨⟨by decide, q72⟩, List.forall_mem_cons.mpr ⟨⟨by decide, q73⟩, List.forall_mem_cons.mpr ⟨⟨by decide, q74⟩, List.forall_mem_cons.mpr ⟨⟨by decide, q75⟩, List.forall_mem_cons.mpr ⟨⟨by decide, q76⟩, fun _ h => absurd h List.not_mem_nil⟩⟩⟩⟩⟩⟩⟩⟩⟩⟩⟩⟩⟩⟩⟩⟩⟩⟩⟩⟩⟩⟩⟩⟩⟩⟩⟩⟩⟩⟩⟩⟩⟩
theorem kdX0 : mKd vwCl 0 RX0 TX0 33 tyX0 fdX0 flX0 := ⟨rfl, rfl, in_X0, tyX0_ok, nmX0, flX0_ok, by decide +kernel, by decide +kernel, by decide +kernel⟩
def fdX1 : List (Nat × Nat) := [(2, 12), (2, 12), (0, 0), (2, 20), (2, 20), (2, 20), (0, 0), (2, 20), (2, 20), (2, 20), (3, 8), (0, 0), (2, 12), (2, 12), (2, 12), (0, 0), (2, 16), (2, 16), (2, 16), (3, 16), (1, 0), (2, 12), (2, 16), (2, 32), (2, 8)]
def flX1 : List (Nat × Nat) := [(7, 0), (13, 1), (71, 2), (16, 3), (19, 4), (22, 5), (75, 6), (25, 7), (28, 8), (31, 9), (34, 10), (103, 11), (38, 12), (41, 13), (44, 14), (109, 15), (47, 16), (50, 17), (53, 18), (56, 19), (82, 20), (59, 21), (62, 22), (65, 23), (68, 24)]
theorem flX1_ok : ∀ q ∈ flX1, q.2 < 25 ∧ Jvm.Cond.fieldLink RX1 q.1 RX1 (TX1 q.2).2.1 (TX1 q.2).2.2.1 ∈ lw_all := List.forall_mem_cons.mpr ⟨⟨by decide, q299⟩, List.forall_mem_cons.mpr ⟨⟨by decide, q300⟩, List.forall_mem_cons.mpr ⟨⟨by decide, q301⟩, List.forall_mem_cons.mpr ⟨⟨by decide, q302⟩, List.forall_mem_cons.mpr ⟨⟨by decide, q303⟩, List.forall_mem_cons.mpr ⟨⟨by decide, q304⟩, List.forall_mem_cons.mpr ⟨⟨by decide, q305⟩, List.forall_mem_cons.mpr ⟨⟨by decide, q306⟩, List.forall_mem_cons.mpr ⟨⟨by decide, q307⟩, List.forall_mem_cons.mpr ⟨⟨by decide, q308⟩, List.forall_mem_cons.mpr ⟨⟨by decide, q309⟩, List.forall_mem_cons.mpr ⟨⟨by decide, q310⟩, List.forall_mem_cons.mpr ⟨⟨by decide, q311⟩, List.forall_mem_cons.mpr ⟨⟨by decide, q312⟩, List.forall_mem_cons.mpr ⟨⟨by decide, q313⟩, List.forall_mem_cons.mpr ⟨⟨by decide, q314⟩, List.forall_mem_cons.mpr ⟨⟨by decide, q315⟩, List.forall_mem_cons.mpr ⟨⟨by decide, q316⟩, List.forall_mem_cons.mpr ⟨⟨by decide, q317⟩, List.forall_mem_cons.mpr ⟨⟨by decide, q318⟩, List.forall_mem_cons.mpr ⟨⟨by decide, q319⟩, List.forall_mem_cons.mpr ⟨⟨by decide, q320⟩, List.forall_mem_cons.mpr ⟨⟨by decide, q321⟩, List.forall_mem_cons.mpr ⟨⟨by decide, q322⟩, List.forall_mem_cons.mpr ⟨⟨by decide, q323⟩, fun _ h => absurd h List.not_mem_nil⟩⟩⟩⟩⟩⟩⟩⟩⟩⟩⟩⟩⟩⟩⟩⟩⟩⟩⟩⟩⟩⟩⟩⟩⟩
theorem kdX1 : mKd vwCl 1 RX1 TX1 25 tyX1 fdX1 flX1 := ⟨rfl, rfl, in_X1, tyX1_ok, nmX1, flX1_ok, by decide +kernel, by decide +kernel, by decide +kernel⟩
def X0b_alloc : List (Nat × Instr × Int32 × Nat) := [(0, .iload_n 1, 0, 0), (1, .invokestatic 134, 0, 0), (4, .ifCond .ne 10, 0, 14), (7, .iload_n 2, 0, 0), (8, .invokestatic 138, 0, 0), (11, .ifCond .eq 5, 0, 16), (14, .iconst (-1), (-1), 0), (15, .ireturn, 0, 0), (16, .aload_n 0, 0, 0), (17, .iload_n 1, 0, 0), (18, .iconst 1, 1, 0), (19, .iload_n 2, 0, 0), (20, .ishl, 0, 0), (21, .invokevirtual 91, 0, 0), (24, .aload_n 0, 0, 0), (25, .invokevirtual 141, 0, 0), (28, .aload_n 0, 0, 0), (29, .getfield 13, 0, 0), (32, .aload_n 0, 0, 0), (33, .getfield 7, 0, 0), (36, .iload_n 1, 0, 0), (37, .iaload, 0, 0), (38, .iaload, 0, 0), (39, .invokestatic 144, 0, 0), (42, .ireturn, 0, 0)]
theorem X0b_alloc_ok : mTb cX0_alloc X0b_alloc = true := by decide +kernel
def X0b_badVariable : List (Nat × Instr × Int32 × Nat) := [(0, .iload_n 0, 0, 0), (1, .ifCond .lt 9, 0, 10), (4, .iload_n 0, 0, 0), (5, .bipush 12, 12, 0), (7, .if_icmp .lt 7, 0, 14), (10, .iconst 1, 1, 0), (11, .goto 4, 0, 15), (14, .iconst 0, 0, 0), (15, .ireturn, 0, 0)]
theorem X0b_badVariable_ok : mTb cX0_badVariable X0b_badVariable = true := by decide +kernel
def X0b_badSite : List (Nat × Instr × Int32 × Nat) := [(0, .iload_n 0, 0, 0), (1, .ifCond .lt 9, 0, 10), (4, .iload_n 0, 0, 0), (5, .bipush 8, 8, 0), (7, .if_icmp .lt 7, 0, 14), (10, .iconst 1, 1, 0), (11, .goto 4, 0, 15), (14, .iconst 0, 0, 0), (15, .ireturn, 0, 0)]
theorem X0b_badSite_ok : mTb cX0_badSite X0b_badSite = true := by decide +kernel
def X0b_addSites : List (Nat × Instr × Int32 × Nat) := [(0, .aload_n 0, 0, 0), (1, .getfield 7, 0, 0), (4, .iload_n 1, 0, 0), (5, .iaload, 0, 0), (6, .istore_n 3, 0, 0), (7, .iload_n 2, 0, 0), (8, .aload_n 0, 0, 0), (9, .getfield 13, 0, 0), (12, .iload_n 3, 0, 0), (13, .iaload, 0, 0), (14, .iconst (-1), (-1), 0), (15, .ixor, 0, 0), (16, .iand, 0, 0), (17, .istore 4, 0, 0), (19, .iload 4, 0, 0), (21, .ifCond .ne 4, 0, 25), (24, .return_, 0, 0), (25, .aload_n 0, 0, 0), (26, .getfield 13, 0, 0), (29, .iload_n 3, 0, 0), (30, .dup2, 0, 0), (31, .iaload, 0, 0), (32, .iload 4, 0, 0), (34, .ior, 0, 0), (35, .iastore, 0, 0), (36, .aload_n 0, 0, 0), (37, .getfield 16, 0, 0), (40, .iload_n 3, 0, 0), (41, .dup2, 0, 0), (42, .iaload, 0, 0), (43, .iload 4, 0, 0), (45, .ior, 0, 0), (46, .iastore, 0, 0), (47, .aload_n 0, 0, 0), (48, .iload_n 3, 0, 0), (49, .invokevirtual 83, 0, 0), (52, .return_, 0, 0)]
theorem X0b_addSites_ok : mTb cX0_addSites X0b_addSites = true := by decide +kernel
def X0b_enqueue : List (Nat × Instr × Int32 × Nat) := [(0, .aload_n 0, 0, 0), (1, .getfield 22, 0, 0), (4, .iload_n 1, 0, 0), (5, .baload, 0, 0), (6, .ifCond .eq 4, 0, 10), (9, .return_, 0, 0), (10, .aload_n 0, 0, 0), (11, .getfield 22, 0, 0), (14, .iload_n 1, 0, 0), (15, .iconst 1, 1, 0), (16, .bastore, 0, 0), (17, .aload_n 0, 0, 0), (18, .getfield 26, 0, 0), (21, .aload_n 0, 0, 0), (22, .getfield 87, 0, 0), (25, .iload_n 1, 0, 0), (26, .iastore, 0, 0), (27, .aload_n 0, 0, 0), (28, .aload_n 0, 0, 0), (29, .getfield 87, 0, 0), (32, .iconst 1, 1, 0), (33, .iadd, 0, 0), (34, .bipush 31, 31, 0), (36, .iand, 0, 0), (37, .putfield 87, 0, 0), (40, .return_, 0, 0)]
theorem X0b_enqueue_ok : mTb cX0_enqueue X0b_enqueue = true := by decide +kernel
def X0b_solve : List (Nat × Instr × Int32 × Nat) := [(0, .iconst 0, 0, 0), (1, .istore_n 1, 0, 0), (2, .iload_n 1, 0, 0), (3, .sipush 600, 600, 0), (6, .if_icmp .ge 65, 0, 71), (9, .aload_n 0, 0, 0), (10, .getfield 95, 0, 0), (13, .aload_n 0, 0, 0), (14, .getfield 87, 0, 0), (17, .if_icmp .eq 54, 0, 71), (20, .aload_n 0, 0, 0), (21, .getfield 26, 0, 0), (24, .aload_n 0, 0, 0), (25, .getfield 95, 0, 0), (28, .iaload, 0, 0), (29, .istore_n 2, 0, 0), (30, .aload_n 0, 0, 0), (31, .aload_n 0, 0, 0), (32, .getfield 95, 0, 0), (35, .iconst 1, 1, 0), (36, .iadd, 0, 0), (37, .bipush 31, 31, 0), (39, .iand, 0, 0), (40, .putfield 95, 0, 0), (43, .aload_n 0, 0, 0), (44, .getfield 22, 0, 0), (47, .iload_n 2, 0, 0), (48, .iconst 0, 0, 0), (49, .bastore, 0, 0), (50, .aload_n 0, 0, 0), (51, .getfield 7, 0, 0), (54, .iload_n 2, 0, 0), (55, .iaload, 0, 0), (56, .iload_n 2, 0, 0), (57, .if_icmp .ne 8, 0, 65), (60, .aload_n 0, 0, 0), (61, .iload_n 2, 0, 0), (62, .invokevirtual 98, 0, 0), (65, .iinc 1 1, 1, 0), (68, .goto (-66), 0, 2), (71, .return_, 0, 0)]
theorem X0b_solve_ok : mTb cX0_solve X0b_solve = true := by decide +kernel
def X0b_pass : List (Nat × Instr × Int32 × Nat) := [(0, .aload_n 0, 0, 0), (1, .getfield 16, 0, 0), (4, .iload_n 1, 0, 0), (5, .iaload, 0, 0), (6, .istore_n 2, 0, 0), (7, .aload_n 0, 0, 0), (8, .getfield 16, 0, 0), (11, .iload_n 1, 0, 0), (12, .iconst 0, 0, 0), (13, .iastore, 0, 0), (14, .iconst 0, 0, 0), (15, .istore_n 3, 0, 0), (16, .iload_n 3, 0, 0), (17, .aload_n 0, 0, 0), (18, .getfield 101, 0, 0), (21, .if_icmp .ge 41, 0, 62), (24, .aload_n 0, 0, 0), (25, .getfield 7, 0, 0), (28, .aload_n 0, 0, 0), (29, .getfield 32, 0, 0), (32, .iload_n 3, 0, 0), (33, .iaload, 0, 0), (34, .iaload, 0, 0), (35, .iload_n 1, 0, 0), (36, .if_icmp .ne 20, 0, 56), (39, .aload_n 0, 0, 0), (40, .iload_n 2, 0, 0), (41, .aload_n 0, 0, 0), (42, .getfield 35, 0, 0), (45, .iload_n 3, 0, 0), (46, .iaload, 0, 0), (47, .aload_n 0, 0, 0), (48, .getfield 29, 0, 0), (51, .iload_n 3, 0, 0), (52, .iaload, 0, 0), (53, .invokevirtual 104, 0, 0), (56, .iinc 3 1, 1, 0), (59, .goto (-43), 0, 16), (62, .iconst 0, 0, 0), (63, .istore_n 3, 0, 0), (64, .iload_n 3, 0, 0), (65, .aload_n 0, 0, 0), (66, .getfield 108, 0, 0), (69, .if_icmp .ge 41, 0, 110), (72, .aload_n 0, 0, 0), (73, .getfield 7, 0, 0), (76, .aload_n 0, 0, 0), (77, .getfield 38, 0, 0), (80, .iload_n 3, 0, 0), (81, .iaload, 0, 0), (82, .iaload, 0, 0), (83, .iload_n 1, 0, 0), (84, .if_icmp .ne 20, 0, 104), (87, .aload_n 0, 0, 0), (88, .iload_n 2, 0, 0), (89, .aload_n 0, 0, 0), (90, .getfield 41, 0, 0), (93, .iload_n 3, 0, 0), (94, .iaload, 0, 0), (95, .aload_n 0, 0, 0), (96, .getfield 44, 0, 0), (99, .iload_n 3, 0, 0), (100, .iaload, 0, 0), (101, .invokevirtual 111, 0, 0), (104, .iinc 3 1, 1, 0), (107, .goto (-43), 0, 64), (110, .aload_n 0, 0, 0), (111, .getfield 19, 0, 0), (114, .iload_n 1, 0, 0), (115, .iaload, 0, 0), (116, .istore_n 3, 0, 0), (117, .iconst 0, 0, 0), (118, .istore 4, 0, 0), (120, .iload 4, 0, 0), (122, .bipush 28, 28, 0), (124, .if_icmp .ge 63, 0, 187), (127, .iload_n 3, 0, 0), (128, .iload 4, 0, 0), (130, .ishr, 0, 0), (131, .iconst 1, 1, 0), (132, .iand, 0, 0), (133, .iconst 1, 1, 0), (134, .if_icmp .ne 47, 0, 181), (137, .aload_n 0, 0, 0), (138, .getfield 13, 0, 0), (141, .aload_n 0, 0, 0), (142, .getfield 7, 0, 0), (145, .iload 4, 0, 0), (147, .iaload, 0, 0), (148, .iaload, 0, 0), (149, .istore 5, 0, 0), (151, .aload_n 0, 0, 0), (152, .iload 4, 0, 0), (154, .iload_n 2, 0, 0), (155, .invokevirtual 91, 0, 0), (158, .iload 5, 0, 0), (160, .aload_n 0, 0, 0), (161, .getfield 13, 0, 0), (164, .iload_n 1, 0, 0), (165, .iaload, 0, 0), (166, .if_icmp .ne 15, 0, 181), (169, .aload_n 0, 0, 0), (170, .iload_n 1, 0, 0), (171, .aload_n 0, 0, 0), (172, .getfield 7, 0, 0), (175, .iload 4, 0, 0), (177, .iaload, 0, 0), (178, .invokevirtual 114, 0, 0), (181, .iinc 4 1, 1, 0), (184, .goto (-64), 0, 120), (187, .return_, 0, 0)]
theorem X0b_pass_ok : mTb cX0_pass X0b_pass = true := by decide +kernel
def X0b_edgesFromFields : List (Nat × Instr × Int32 × Nat) := [(0, .iconst 0, 0, 0), (1, .istore 4, 0, 0), (3, .iload 4, 0, 0), (5, .bipush 8, 8, 0), (7, .if_icmp .ge 30, 0, 37), (10, .iload_n 1, 0, 0), (11, .iload 4, 0, 0), (13, .ishr, 0, 0), (14, .iconst 1, 1, 0), (15, .iand, 0, 0), (16, .iconst 1, 1, 0), (17, .if_icmp .ne 14, 0, 31), (20, .aload_n 0, 0, 0), (21, .iload 4, 0, 0), (23, .iload_n 2, 0, 0), (24, .invokestatic 117, 0, 0), (27, .iload_n 3, 0, 0), (28, .invokevirtual 121, 0, 0), (31, .iinc 4 1, 1, 0), (34, .goto (-31), 0, 3), (37, .return_, 0, 0)]
theorem X0b_edgesFromFields_ok : mTb cX0_edgesFromFields X0b_edgesFromFields = true := by decide +kernel
def X0b_fieldNode : List (Nat × Instr × Int32 × Nat) := [(0, .bipush 12, 12, 0), (2, .iconst 2, 2, 0), (3, .iload_n 0, 0, 0), (4, .imul, 0, 0), (5, .iadd, 0, 0), (6, .iload_n 1, 0, 0), (7, .iadd, 0, 0), (8, .ireturn, 0, 0)]
theorem X0b_fieldNode_ok : mTb cX0_fieldNode X0b_fieldNode = true := by decide +kernel
def X0b_addEdge : List (Nat × Instr × Int32 × Nat) := [(0, .aload_n 0, 0, 0), (1, .getfield 7, 0, 0), (4, .iload_n 1, 0, 0), (5, .iaload, 0, 0), (6, .istore_n 3, 0, 0), (7, .aload_n 0, 0, 0), (8, .getfield 7, 0, 0), (11, .iload_n 2, 0, 0), (12, .iaload, 0, 0), (13, .istore 4, 0, 0), (15, .iload_n 3, 0, 0), (16, .iload 4, 0, 0), (18, .if_icmp .eq 18, 0, 36), (21, .aload_n 0, 0, 0), (22, .getfield 19, 0, 0), (25, .iload_n 3, 0, 0), (26, .iaload, 0, 0), (27, .iload 4, 0, 0), (29, .ishr, 0, 0), (30, .iconst 1, 1, 0), (31, .iand, 0, 0), (32, .iconst 1, 1, 0), (33, .if_icmp .ne 4, 0, 37), (36, .return_, 0, 0), (37, .aload_n 0, 0, 0), (38, .getfield 19, 0, 0), (41, .iload_n 3, 0, 0), (42, .dup2, 0, 0), (43, .iaload, 0, 0), (44, .iconst 1, 1, 0), (45, .iload 4, 0, 0), (47, .ishl, 0, 0), (48, .ior, 0, 0), (49, .iastore, 0, 0), (50, .aload_n 0, 0, 0), (51, .iload 4, 0, 0), (53, .aload_n 0, 0, 0), (54, .getfield 13, 0, 0), (57, .iload_n 3, 0, 0), (58, .iaload, 0, 0), (59, .invokevirtual 91, 0, 0), (62, .return_, 0, 0)]
theorem X0b_addEdge_ok : mTb cX0_addEdge X0b_addEdge = true := by decide +kernel
def X0b_edgesToFields : List (Nat × Instr × Int32 × Nat) := [(0, .iconst 0, 0, 0), (1, .istore 4, 0, 0), (3, .iload 4, 0, 0), (5, .bipush 8, 8, 0), (7, .if_icmp .ge 30, 0, 37), (10, .iload_n 1, 0, 0), (11, .iload 4, 0, 0), (13, .ishr, 0, 0), (14, .iconst 1, 1, 0), (15, .iand, 0, 0), (16, .iconst 1, 1, 0), (17, .if_icmp .ne 14, 0, 31), (20, .aload_n 0, 0, 0), (21, .iload_n 3, 0, 0), (22, .iload 4, 0, 0), (24, .iload_n 2, 0, 0), (25, .invokestatic 117, 0, 0), (28, .invokevirtual 121, 0, 0), (31, .iinc 4 1, 1, 0), (34, .goto (-31), 0, 3), (37, .return_, 0, 0)]
theorem X0b_edgesToFields_ok : mTb cX0_edgesToFields X0b_edgesToFields = true := by decide +kernel
def X0b_tryCircle : List (Nat × Instr × Int32 × Nat) := [(0, .iload_n 1, 0, 0), (1, .iload_n 2, 0, 0), (2, .if_icmp .eq 13, 0, 15), (5, .aload_n 0, 0, 0), (6, .getfield 7, 0, 0), (9, .iload_n 1, 0, 0), (10, .iaload, 0, 0), (11, .iload_n 1, 0, 0), (12, .if_icmp .eq 4, 0, 16), (15, .return_, 0, 0), (16, .aload_n 0, 0, 0), (17, .iload_n 2, 0, 0), (18, .invokevirtual 128, 0, 0), (21, .istore_n 3, 0, 0), (22, .iload_n 3, 0, 0), (23, .iload_n 1, 0, 0), (24, .ishr, 0, 0), (25, .iconst 1, 1, 0), (26, .iand, 0, 0), (27, .ifCond .ne 4, 0, 31), (30, .return_, 0, 0), (31, .iconst 0, 0, 0), (32, .istore 4, 0, 0), (34, .iload 4, 0, 0), (36, .bipush 28, 28, 0), (38, .if_icmp .ge 62, 0, 100), (41, .iload 4, 0, 0), (43, .iload_n 1, 0, 0), (44, .if_icmp .eq 50, 0, 94), (47, .aload_n 0, 0, 0), (48, .getfield 7, 0, 0), (51, .iload 4, 0, 0), (53, .iaload, 0, 0), (54, .iload 4, 0, 0), (56, .if_icmp .ne 38, 0, 94), (59, .iload_n 3, 0, 0), (60, .iload 4, 0, 0), (62, .ishr, 0, 0), (63, .iconst 1, 1, 0), (64, .iand, 0, 0), (65, .iconst 1, 1, 0), (66, .if_icmp .ne 28, 0, 94), (69, .aload_n 0, 0, 0), (70, .iload 4, 0, 0), (72, .invokevirtual 128, 0, 0), (75, .istore 5, 0, 0), (77, .iload 5, 0, 0), (79, .iload_n 1, 0, 0), (80, .ishr, 0, 0), (81, .iconst 1, 1, 0), (82, .iand, 0, 0), (83, .iconst 1, 1, 0), (84, .if_icmp .ne 10, 0, 94), (87, .aload_n 0, 0, 0), (88, .iload_n 1, 0, 0), (89, .iload 4, 0, 0), (91, .invokevirtual 131, 0, 0), (94, .iinc 4 1, 1, 0), (97, .goto (-63), 0, 34), (100, .return_, 0, 0)]
theorem X0b_tryCircle_ok : mTb cX0_tryCircle X0b_tryCircle = true := by decide +kernel
def X0b_reach : List (Nat × Instr × Int32 × Nat) := [(0, .iconst 1, 1, 0), (1, .iload_n 1, 0, 0), (2, .ishl, 0, 0), (3, .istore_n 2, 0, 0), (4, .iconst 0, 0, 0), (5, .istore_n 3, 0, 0), (6, .iconst 0, 0, 0), (7, .istore 4, 0, 0), (9, .iload 4, 0, 0), (11, .bipush 28, 28, 0), (13, .if_icmp .ge 56, 0, 69), (16, .iload_n 2, 0, 0), (17, .iload_n 3, 0, 0), (18, .if_icmp .eq 51, 0, 69), (21, .iload_n 2, 0, 0), (22, .istore_n 3, 0, 0), (23, .iconst 0, 0, 0), (24, .istore 5, 0, 0), (26, .iload 5, 0, 0), (28, .bipush 28, 28, 0), (30, .if_icmp .ge 33, 0, 63), (33, .iload_n 3, 0, 0), (34, .iload 5, 0, 0), (36, .ishr, 0, 0), (37, .iconst 1, 1, 0), (38, .iand, 0, 0), (39, .iconst 1, 1, 0), (40, .if_icmp .ne 17, 0, 57), (43, .iload_n 2, 0, 0), (44, .aload_n 0, 0, 0), (45, .aload_n 0, 0, 0), (46, .getfield 19, 0, 0), (49, .iload 5, 0, 0), (51, .iaload, 0, 0), (52, .invokevirtual 124, 0, 0), (55, .ior, 0, 0), (56, .istore_n 2, 0, 0), (57, .iinc 5 1, 1, 0), (60, .goto (-34), 0, 26), (63, .iinc 4 1, 1, 0), (66, .goto (-57), 0, 9), (69, .iload_n 2, 0, 0), (70, .ireturn, 0, 0)]
theorem X0b_reach_ok : mTb cX0_reach X0b_reach = true := by decide +kernel
def X0b_leadersOf : List (Nat × Instr × Int32 × Nat) := [(0, .iconst 0, 0, 0), (1, .istore_n 2, 0, 0), (2, .iconst 0, 0, 0), (3, .istore_n 3, 0, 0), (4, .iload_n 3, 0, 0), (5, .bipush 28, 28, 0), (7, .if_icmp .ge 29, 0, 36), (10, .iload_n 1, 0, 0), (11, .iload_n 3, 0, 0), (12, .ishr, 0, 0), (13, .iconst 1, 1, 0), (14, .iand, 0, 0), (15, .iconst 1, 1, 0), (16, .if_icmp .ne 14, 0, 30), (19, .iload_n 2, 0, 0), (20, .iconst 1, 1, 0), (21, .aload_n 0, 0, 0), (22, .getfield 7, 0, 0), (25, .iload_n 3, 0, 0), (26, .iaload, 0, 0), (27, .ishl, 0, 0), (28, .ior, 0, 0), (29, .istore_n 2, 0, 0), (30, .iinc 3 1, 1, 0), (33, .goto (-29), 0, 4), (36, .iload_n 2, 0, 0), (37, .ireturn, 0, 0)]
theorem X0b_leadersOf_ok : mTb cX0_leadersOf X0b_leadersOf = true := by decide +kernel
def X0b_join : List (Nat × Instr × Int32 × Nat) := [(0, .iconst 0, 0, 0), (1, .istore_n 3, 0, 0), (2, .iload_n 3, 0, 0), (3, .bipush 28, 28, 0), (5, .if_icmp .ge 26, 0, 31), (8, .aload_n 0, 0, 0), (9, .getfield 7, 0, 0), (12, .iload_n 3, 0, 0), (13, .iaload, 0, 0), (14, .iload_n 2, 0, 0), (15, .if_icmp .ne 10, 0, 25), (18, .aload_n 0, 0, 0), (19, .getfield 7, 0, 0), (22, .iload_n 3, 0, 0), (23, .iload_n 1, 0, 0), (24, .iastore, 0, 0), (25, .iinc 3 1, 1, 0), (28, .goto (-26), 0, 2), (31, .aload_n 0, 0, 0), (32, .getfield 13, 0, 0), (35, .iload_n 1, 0, 0), (36, .dup2, 0, 0), (37, .iaload, 0, 0), (38, .aload_n 0, 0, 0), (39, .getfield 13, 0, 0), (42, .iload_n 2, 0, 0), (43, .iaload, 0, 0), (44, .ior, 0, 0), (45, .iastore, 0, 0), (46, .aload_n 0, 0, 0), (47, .getfield 19, 0, 0), (50, .iload_n 1, 0, 0), (51, .dup2, 0, 0), (52, .iaload, 0, 0), (53, .aload_n 0, 0, 0), (54, .getfield 19, 0, 0), (57, .iload_n 2, 0, 0), (58, .iaload, 0, 0), (59, .ior, 0, 0), (60, .iastore, 0, 0), (61, .aload_n 0, 0, 0), (62, .getfield 16, 0, 0), (65, .iload_n 1, 0, 0), (66, .aload_n 0, 0, 0), (67, .getfield 13, 0, 0), (70, .iload_n 1, 0, 0), (71, .iaload, 0, 0), (72, .iastore, 0, 0), (73, .aload_n 0, 0, 0), (74, .iload_n 1, 0, 0), (75, .invokevirtual 83, 0, 0), (78, .return_, 0, 0)]
theorem X0b_join_ok : mTb cX0_join X0b_join = true := by decide +kernel
def X0b_bits : List (Nat × Instr × Int32 × Nat) := [(0, .iconst 0, 0, 0), (1, .istore_n 1, 0, 0), (2, .iconst 0, 0, 0), (3, .istore_n 2, 0, 0), (4, .iload_n 2, 0, 0), (5, .bipush 8, 8, 0), (7, .if_icmp .ge 17, 0, 24), (10, .iload_n 1, 0, 0), (11, .iload_n 0, 0, 0), (12, .iload_n 2, 0, 0), (13, .ishr, 0, 0), (14, .iconst 1, 1, 0), (15, .iand, 0, 0), (16, .iadd, 0, 0), (17, .istore_n 1, 0, 0), (18, .iinc 2 1, 1, 0), (21, .goto (-17), 0, 4), (24, .iload_n 1, 0, 0), (25, .ireturn, 0, 0)]
theorem X0b_bits_ok : mTb cX0_bits X0b_bits = true := by decide +kernel
def X0b_copy : List (Nat × Instr × Int32 × Nat) := [(0, .iload_n 1, 0, 0), (1, .invokestatic 134, 0, 0), (4, .ifCond .ne 10, 0, 14), (7, .iload_n 2, 0, 0), (8, .invokestatic 134, 0, 0), (11, .ifCond .eq 5, 0, 16), (14, .iconst (-1), (-1), 0), (15, .ireturn, 0, 0), (16, .aload_n 0, 0, 0), (17, .iload_n 2, 0, 0), (18, .iload_n 1, 0, 0), (19, .invokevirtual 121, 0, 0), (22, .aload_n 0, 0, 0), (23, .invokevirtual 141, 0, 0), (26, .aload_n 0, 0, 0), (27, .getfield 13, 0, 0), (30, .aload_n 0, 0, 0), (31, .getfield 7, 0, 0), (34, .iload_n 1, 0, 0), (35, .iaload, 0, 0), (36, .iaload, 0, 0), (37, .invokestatic 144, 0, 0), (40, .ireturn, 0, 0)]
theorem X0b_copy_ok : mTb cX0_copy X0b_copy = true := by decide +kernel
def X0b_load : List (Nat × Instr × Int32 × Nat) := [(0, .iload_n 1, 0, 0), (1, .invokestatic 134, 0, 0), (4, .ifCond .ne 17, 0, 21), (7, .iload_n 2, 0, 0), (8, .invokestatic 134, 0, 0), (11, .ifCond .ne 10, 0, 21), (14, .iload_n 3, 0, 0), (15, .invokestatic 147, 0, 0), (18, .ifCond .eq 5, 0, 23), (21, .iconst (-1), (-1), 0), (22, .ireturn, 0, 0), (23, .aload_n 0, 0, 0), (24, .getfield 101, 0, 0), (27, .bipush 20, 20, 0), (29, .if_icmp .lt 6, 0, 35), (32, .bipush (-2), (-2), 0), (34, .ireturn, 0, 0), (35, .aload_n 0, 0, 0), (36, .getfield 29, 0, 0), (39, .aload_n 0, 0, 0), (40, .getfield 101, 0, 0), (43, .iload_n 1, 0, 0), (44, .iastore, 0, 0), (45, .aload_n 0, 0, 0), (46, .getfield 32, 0, 0), (49, .aload_n 0, 0, 0), (50, .getfield 101, 0, 0), (53, .iload_n 2, 0, 0), (54, .iastore, 0, 0), (55, .aload_n 0, 0, 0), (56, .getfield 35, 0, 0), (59, .aload_n 0, 0, 0), (60, .getfield 101, 0, 0), (63, .iload_n 3, 0, 0), (64, .iastore, 0, 0), (65, .aload_n 0, 0, 0), (66, .dup, 0, 0), (67, .getfield 101, 0, 0), (70, .iconst 1, 1, 0), (71, .iadd, 0, 0), (72, .putfield 101, 0, 0), (75, .aload_n 0, 0, 0), (76, .aload_n 0, 0, 0), (77, .getfield 13, 0, 0), (80, .aload_n 0, 0, 0), (81, .getfield 7, 0, 0), (84, .iload_n 2, 0, 0), (85, .iaload, 0, 0), (86, .iaload, 0, 0), (87, .iload_n 3, 0, 0), (88, .iload_n 1, 0, 0), (89, .invokevirtual 104, 0, 0), (92, .aload_n 0, 0, 0), (93, .invokevirtual 141, 0, 0), (96, .aload_n 0, 0, 0), (97, .getfield 13, 0, 0), (100, .aload_n 0, 0, 0), (101, .getfield 7, 0, 0), (104, .iload_n 1, 0, 0), (105, .iaload, 0, 0), (106, .iaload, 0, 0), (107, .invokestatic 144, 0, 0), (110, .ireturn, 0, 0)]
theorem X0b_load_ok : mTb cX0_load X0b_load = true := by decide +kernel
def X0b_badField : List (Nat × Instr × Int32 × Nat) := [(0, .iload_n 0, 0, 0), (1, .ifCond .lt 8, 0, 9), (4, .iload_n 0, 0, 0), (5, .iconst 1, 1, 0), (6, .if_icmp .le 7, 0, 13), (9, .iconst 1, 1, 0), (10, .goto 4, 0, 14), (13, .iconst 0, 0, 0), (14, .ireturn, 0, 0)]
theorem X0b_badField_ok : mTb cX0_badField X0b_badField = true := by decide +kernel
def X0b_store : List (Nat × Instr × Int32 × Nat) := [(0, .iload_n 1, 0, 0), (1, .invokestatic 134, 0, 0), (4, .ifCond .ne 17, 0, 21), (7, .iload_n 3, 0, 0), (8, .invokestatic 134, 0, 0), (11, .ifCond .ne 10, 0, 21), (14, .iload_n 2, 0, 0), (15, .invokestatic 147, 0, 0), (18, .ifCond .eq 5, 0, 23), (21, .iconst (-1), (-1), 0), (22, .ireturn, 0, 0), (23, .aload_n 0, 0, 0), (24, .getfield 108, 0, 0), (27, .bipush 20, 20, 0), (29, .if_icmp .lt 6, 0, 35), (32, .bipush (-2), (-2), 0), (34, .ireturn, 0, 0), (35, .aload_n 0, 0, 0), (36, .getfield 38, 0, 0), (39, .aload_n 0, 0, 0), (40, .getfield 108, 0, 0), (43, .iload_n 1, 0, 0), (44, .iastore, 0, 0), (45, .aload_n 0, 0, 0), (46, .getfield 41, 0, 0), (49, .aload_n 0, 0, 0), (50, .getfield 108, 0, 0), (53, .iload_n 2, 0, 0), (54, .iastore, 0, 0), (55, .aload_n 0, 0, 0), (56, .getfield 44, 0, 0), (59, .aload_n 0, 0, 0), (60, .getfield 108, 0, 0), (63, .iload_n 3, 0, 0), (64, .iastore, 0, 0), (65, .aload_n 0, 0, 0), (66, .dup, 0, 0), (67, .getfield 108, 0, 0), (70, .iconst 1, 1, 0), (71, .iadd, 0, 0), (72, .putfield 108, 0, 0), (75, .aload_n 0, 0, 0), (76, .aload_n 0, 0, 0), (77, .getfield 13, 0, 0), (80, .aload_n 0, 0, 0), (81, .getfield 7, 0, 0), (84, .iload_n 1, 0, 0), (85, .iaload, 0, 0), (86, .iaload, 0, 0), (87, .iload_n 2, 0, 0), (88, .iload_n 3, 0, 0), (89, .invokevirtual 111, 0, 0), (92, .aload_n 0, 0, 0), (93, .invokevirtual 141, 0, 0), (96, .iconst 0, 0, 0), (97, .ireturn, 0, 0)]
theorem X0b_store_ok : mTb cX0_store X0b_store = true := by decide +kernel
def X0b_once : List (Nat × Instr × Int32 × Nat) := [(0, .iload_n 1, 0, 0), (1, .invokestatic 138, 0, 0), (4, .ifCond .eq 5, 0, 9), (7, .iconst (-1), (-1), 0), (8, .ireturn, 0, 0), (9, .aload_n 0, 0, 0), (10, .getfield 150, 0, 0), (13, .iload_n 1, 0, 0), (14, .ishr, 0, 0), (15, .iconst 1, 1, 0), (16, .iand, 0, 0), (17, .istore_n 3, 0, 0), (18, .aload_n 0, 0, 0), (19, .dup, 0, 0), (20, .getfield 150, 0, 0), (23, .iconst 1, 1, 0), (24, .iload_n 1, 0, 0), (25, .ishl, 0, 0), (26, .iconst (-1), (-1), 0), (27, .ixor, 0, 0), (28, .iand, 0, 0), (29, .putfield 150, 0, 0), (32, .iload_n 2, 0, 0), (33, .ifCond .eq 15, 0, 48), (36, .aload_n 0, 0, 0), (37, .dup, 0, 0), (38, .getfield 150, 0, 0), (41, .iconst 1, 1, 0), (42, .iload_n 1, 0, 0), (43, .ishl, 0, 0), (44, .ior, 0, 0), (45, .putfield 150, 0, 0), (48, .iload_n 3, 0, 0), (49, .ireturn, 0, 0)]
theorem X0b_once_ok : mTb cX0_once X0b_once = true := by decide +kernel
def X0b_region : List (Nat × Instr × Int32 × Nat) := [(0, .iload_n 1, 0, 0), (1, .ifCond .lt 15, 0, 16), (4, .iload_n 1, 0, 0), (5, .iconst 3, 3, 0), (6, .if_icmp .gt 10, 0, 16), (9, .iload_n 2, 0, 0), (10, .invokestatic 134, 0, 0), (13, .ifCond .eq 5, 0, 18), (16, .iconst (-1), (-1), 0), (17, .ireturn, 0, 0), (18, .iload_n 3, 0, 0), (19, .iconst (-1), (-1), 0), (20, .if_icmp .lt 11, 0, 31), (23, .iload_n 3, 0, 0), (24, .aload_n 0, 0, 0), (25, .getfield 153, 0, 0), (28, .if_icmp .lt 5, 0, 33), (31, .iconst (-1), (-1), 0), (32, .ireturn, 0, 0), (33, .iload_n 3, 0, 0), (34, .ifCond .lt 15, 0, 49), (37, .aload_n 0, 0, 0), (38, .getfield 47, 0, 0), (41, .iload_n 3, 0, 0), (42, .iaload, 0, 0), (43, .iload_n 1, 0, 0), (44, .if_icmp .eq 5, 0, 49), (47, .iconst (-1), (-1), 0), (48, .ireturn, 0, 0), (49, .aload_n 0, 0, 0), (50, .getfield 153, 0, 0), (53, .bipush 12, 12, 0), (55, .if_icmp .lt 6, 0, 61), (58, .bipush (-2), (-2), 0), (60, .ireturn, 0, 0), (61, .aload_n 0, 0, 0), (62, .getfield 153, 0, 0), (65, .istore 4, 0, 0), (67, .aload_n 0, 0, 0), (68, .getfield 47, 0, 0), (71, .iload 4, 0, 0), (73, .iload_n 1, 0, 0), (74, .iastore, 0, 0), (75, .aload_n 0, 0, 0), (76, .getfield 50, 0, 0), (79, .iload 4, 0, 0), (81, .iload_n 2, 0, 0), (82, .iastore, 0, 0), (83, .aload_n 0, 0, 0), (84, .getfield 53, 0, 0), (87, .iload 4, 0, 0), (89, .iload_n 3, 0, 0), (90, .iastore, 0, 0), (91, .aload_n 0, 0, 0), (92, .dup, 0, 0), (93, .getfield 153, 0, 0), (96, .iconst 1, 1, 0), (97, .iadd, 0, 0), (98, .putfield 153, 0, 0), (101, .iload 4, 0, 0), (103, .ireturn, 0, 0)]
theorem X0b_region_ok : mTb cX0_region X0b_region = true := by decide +kernel
def X0b_access : List (Nat × Instr × Int32 × Nat) := [(0, .aload_n 0, 0, 0), (1, .iload_n 1, 0, 0), (2, .invokevirtual 156, 0, 0), (5, .ifCond .ne 17, 0, 22), (8, .iload_n 2, 0, 0), (9, .invokestatic 134, 0, 0), (12, .ifCond .ne 10, 0, 22), (15, .iload_n 3, 0, 0), (16, .invokestatic 147, 0, 0), (19, .ifCond .eq 5, 0, 24), (22, .iconst (-1), (-1), 0), (23, .ireturn, 0, 0), (24, .aload_n 0, 0, 0), (25, .getfield 159, 0, 0), (28, .bipush 16, 16, 0), (30, .if_icmp .lt 6, 0, 36), (33, .bipush (-2), (-2), 0), (35, .ireturn, 0, 0), (36, .aload_n 0, 0, 0), (37, .getfield 159, 0, 0), (40, .istore 5, 0, 0), (42, .aload_n 0, 0, 0), (43, .getfield 56, 0, 0), (46, .iload 5, 0, 0), (48, .iload_n 1, 0, 0), (49, .iastore, 0, 0), (50, .aload_n 0, 0, 0), (51, .getfield 59, 0, 0), (54, .iload 5, 0, 0), (56, .iload_n 2, 0, 0), (57, .iastore, 0, 0), (58, .aload_n 0, 0, 0), (59, .getfield 62, 0, 0), (62, .iload 5, 0, 0), (64, .iload_n 3, 0, 0), (65, .iastore, 0, 0), (66, .aload_n 0, 0, 0), (67, .getfield 65, 0, 0), (70, .iload 5, 0, 0), (72, .iload 4, 0, 0), (74, .bastore, 0, 0), (75, .aload_n 0, 0, 0), (76, .dup, 0, 0), (77, .getfield 159, 0, 0), (80, .iconst 1, 1, 0), (81, .iadd, 0, 0), (82, .putfield 159, 0, 0), (85, .iload 5, 0, 0), (87, .ireturn, 0, 0)]
theorem X0b_access_ok : mTb cX0_access X0b_access = true := by decide +kernel
def X0b_badPlace : List (Nat × Instr × Int32 × Nat) := [(0, .iload_n 1, 0, 0), (1, .ifCond .lt 13, 0, 14), (4, .iload_n 1, 0, 0), (5, .iconst 4, 4, 0), (6, .aload_n 0, 0, 0), (7, .getfield 153, 0, 0), (10, .iadd, 0, 0), (11, .if_icmp .lt 7, 0, 18), (14, .iconst 1, 1, 0), (15, .goto 4, 0, 19), (18, .iconst 0, 0, 0), (19, .ireturn, 0, 0)]
theorem X0b_badPlace_ok : mTb cX0_badPlace X0b_badPlace = true := by decide +kernel
def X0b_pointsTo : List (Nat × Instr × Int32 × Nat) := [(0, .iload_n 1, 0, 0), (1, .invokestatic 134, 0, 0), (4, .ifCond .eq 7, 0, 11), (7, .iconst (-1), (-1), 0), (8, .goto 14, 0, 22), (11, .aload_n 0, 0, 0), (12, .getfield 13, 0, 0), (15, .aload_n 0, 0, 0), (16, .getfield 7, 0, 0), (19, .iload_n 1, 0, 0), (20, .iaload, 0, 0), (21, .iaload, 0, 0), (22, .ireturn, 0, 0)]
theorem X0b_pointsTo_ok : mTb cX0_pointsTo X0b_pointsTo = true := by decide +kernel
def X0b_holds : List (Nat × Instr × Int32 × Nat) := [(0, .iload_n 1, 0, 0), (1, .invokestatic 138, 0, 0), (4, .ifCond .ne 10, 0, 14), (7, .iload_n 2, 0, 0), (8, .invokestatic 147, 0, 0), (11, .ifCond .eq 5, 0, 16), (14, .iconst (-1), (-1), 0), (15, .ireturn, 0, 0), (16, .aload_n 0, 0, 0), (17, .getfield 13, 0, 0), (20, .aload_n 0, 0, 0), (21, .getfield 7, 0, 0), (24, .bipush 12, 12, 0), (26, .iconst 2, 2, 0), (27, .iload_n 1, 0, 0), (28, .imul, 0, 0), (29, .iadd, 0, 0), (30, .iload_n 2, 0, 0), (31, .iadd, 0, 0), (32, .iaload, 0, 0), (33, .iaload, 0, 0), (34, .ireturn, 0, 0)]
theorem X0b_holds_ok : mTb cX0_holds X0b_holds = true := by decide +kernel
def X0b_race : List (Nat × Instr × Int32 × Nat) := [(0, .iload_n 1, 0, 0), (1, .ifCond .lt 23, 0, 24), (4, .iload_n 1, 0, 0), (5, .aload_n 0, 0, 0), (6, .getfield 159, 0, 0), (9, .if_icmp .ge 15, 0, 24), (12, .iload_n 2, 0, 0), (13, .ifCond .lt 11, 0, 24), (16, .iload_n 2, 0, 0), (17, .aload_n 0, 0, 0), (18, .getfield 159, 0, 0), (21, .if_icmp .lt 5, 0, 26), (24, .iconst 0, 0, 0), (25, .ireturn, 0, 0), (26, .aload_n 0, 0, 0), (27, .iload_n 1, 0, 0), (28, .iload_n 2, 0, 0), (29, .invokevirtual 168, 0, 0), (32, .ireturn, 0, 0)]
theorem X0b_race_ok : mTb cX0_race X0b_race = true := by decide +kernel
def X0b_conflict : List (Nat × Instr × Int32 × Nat) := [(0, .aload_n 0, 0, 0), (1, .getfield 56, 0, 0), (4, .iload_n 1, 0, 0), (5, .iaload, 0, 0), (6, .istore_n 3, 0, 0), (7, .aload_n 0, 0, 0), (8, .getfield 56, 0, 0), (11, .iload_n 2, 0, 0), (12, .iaload, 0, 0), (13, .istore 4, 0, 0), (15, .aload_n 0, 0, 0), (16, .iload_n 3, 0, 0), (17, .invokevirtual 162, 0, 0), (20, .istore 5, 0, 0), (22, .aload_n 0, 0, 0), (23, .iload 4, 0, 0), (25, .invokevirtual 162, 0, 0), (28, .istore 6, 0, 0), (30, .iload 5, 0, 0), (32, .iload 6, 0, 0), (34, .if_icmp .eq 18, 0, 52), (37, .aload_n 0, 0, 0), (38, .getfield 62, 0, 0), (41, .iload_n 1, 0, 0), (42, .iaload, 0, 0), (43, .aload_n 0, 0, 0), (44, .getfield 62, 0, 0), (47, .iload_n 2, 0, 0), (48, .iaload, 0, 0), (49, .if_icmp .eq 5, 0, 54), (52, .iconst 0, 0, 0), (53, .ireturn, 0, 0), (54, .aload_n 0, 0, 0), (55, .getfield 65, 0, 0), (58, .iload_n 1, 0, 0), (59, .baload, 0, 0), (60, .ifCond .ne 14, 0, 74), (63, .aload_n 0, 0, 0), (64, .getfield 65, 0, 0), (67, .iload_n 2, 0, 0), (68, .baload, 0, 0), (69, .ifCond .ne 5, 0, 74), (72, .iconst 0, 0, 0), (73, .ireturn, 0, 0), (74, .aload_n 0, 0, 0), (75, .getfield 13, 0, 0), (78, .aload_n 0, 0, 0), (79, .getfield 7, 0, 0), (82, .aload_n 0, 0, 0), (83, .getfield 59, 0, 0), (86, .iload_n 1, 0, 0), (87, .iaload, 0, 0), (88, .iaload, 0, 0), (89, .iaload, 0, 0), (90, .aload_n 0, 0, 0), (91, .getfield 13, 0, 0), (94, .aload_n 0, 0, 0), (95, .getfield 7, 0, 0), (98, .aload_n 0, 0, 0), (99, .getfield 59, 0, 0), (102, .iload_n 2, 0, 0), (103, .iaload, 0, 0), (104, .iaload, 0, 0), (105, .iaload, 0, 0), (106, .iand, 0, 0), (107, .ifCond .ne 5, 0, 112), (110, .iconst 0, 0, 0), (111, .ireturn, 0, 0), (112, .aload_n 0, 0, 0), (113, .iload_n 3, 0, 0), (114, .invokevirtual 165, 0, 0), (117, .istore 7, 0, 0), (119, .aload_n 0, 0, 0), (120, .iload 4, 0, 0), (122, .invokevirtual 165, 0, 0), (125, .istore 8, 0, 0), (127, .iload 7, 0, 0), (129, .iload 8, 0, 0), (131, .iand, 0, 0), (132, .ifCond .ne 7, 0, 139), (135, .iconst 1, 1, 0), (136, .goto 4, 0, 140), (139, .iconst 0, 0, 0), (140, .ireturn, 0, 0)]
theorem X0b_conflict_ok : mTb cX0_conflict X0b_conflict = true := by decide +kernel
def X0b_threadOf : List (Nat × Instr × Int32 × Nat) := [(0, .iload_n 1, 0, 0), (1, .iconst 4, 4, 0), (2, .if_icmp .ge 7, 0, 9), (5, .iload_n 1, 0, 0), (6, .goto 11, 0, 17), (9, .aload_n 0, 0, 0), (10, .getfield 47, 0, 0), (13, .iload_n 1, 0, 0), (14, .iconst 4, 4, 0), (15, .isub, 0, 0), (16, .iaload, 0, 0), (17, .ireturn, 0, 0)]
theorem X0b_threadOf_ok : mTb cX0_threadOf X0b_threadOf = true := by decide +kernel
def X0b_heldAt : List (Nat × Instr × Int32 × Nat) := [(0, .iconst 0, 0, 0), (1, .istore_n 2, 0, 0), (2, .iload_n 1, 0, 0), (3, .iconst 4, 4, 0), (4, .if_icmp .ge 7, 0, 11), (7, .iconst (-1), (-1), 0), (8, .goto 6, 0, 14), (11, .iload_n 1, 0, 0), (12, .iconst 4, 4, 0), (13, .isub, 0, 0), (14, .istore_n 3, 0, 0), (15, .iconst 0, 0, 0), (16, .istore 4, 0, 0), (18, .iload 4, 0, 0), (20, .bipush 12, 12, 0), (22, .if_icmp .ge 58, 0, 80), (25, .iload_n 3, 0, 0), (26, .ifCond .lt 54, 0, 80), (29, .aload_n 0, 0, 0), (30, .getfield 13, 0, 0), (33, .aload_n 0, 0, 0), (34, .getfield 7, 0, 0), (37, .aload_n 0, 0, 0), (38, .getfield 50, 0, 0), (41, .iload_n 3, 0, 0), (42, .iaload, 0, 0), (43, .iaload, 0, 0), (44, .iaload, 0, 0), (45, .istore 5, 0, 0), (47, .iload 5, 0, 0), (49, .iload 5, 0, 0), (51, .iconst 1, 1, 0), (52, .isub, 0, 0), (53, .iand, 0, 0), (54, .ifCond .ne 13, 0, 67), (57, .iload_n 2, 0, 0), (58, .iload 5, 0, 0), (60, .aload_n 0, 0, 0), (61, .getfield 150, 0, 0), (64, .iand, 0, 0), (65, .ior, 0, 0), (66, .istore_n 2, 0, 0), (67, .aload_n 0, 0, 0), (68, .getfield 53, 0, 0), (71, .iload_n 3, 0, 0), (72, .iaload, 0, 0), (73, .istore_n 3, 0, 0), (74, .iinc 4 1, 1, 0), (77, .goto (-59), 0, 18), (80, .iload_n 2, 0, 0), (81, .ireturn, 0, 0)]
theorem X0b_heldAt_ok : mTb cX0_heldAt X0b_heldAt = true := by decide +kernel
def X0b_races : List (Nat × Instr × Int32 × Nat) := [(0, .iconst 0, 0, 0), (1, .istore_n 1, 0, 0), (2, .iconst 0, 0, 0), (3, .istore_n 2, 0, 0), (4, .iload_n 2, 0, 0), (5, .aload_n 0, 0, 0), (6, .getfield 159, 0, 0), (9, .if_icmp .ge 43, 0, 52), (12, .iload_n 2, 0, 0), (13, .iconst 1, 1, 0), (14, .iadd, 0, 0), (15, .istore_n 3, 0, 0), (16, .iload_n 3, 0, 0), (17, .aload_n 0, 0, 0), (18, .getfield 159, 0, 0), (21, .if_icmp .ge 25, 0, 46), (24, .aload_n 0, 0, 0), (25, .iload_n 2, 0, 0), (26, .iload_n 3, 0, 0), (27, .invokevirtual 168, 0, 0), (30, .istore 4, 0, 0), (32, .iload 4, 0, 0), (34, .ifCond .eq 6, 0, 40), (37, .iinc 1 1, 1, 0), (40, .iinc 3 1, 1, 0), (43, .goto (-27), 0, 16), (46, .iinc 2 1, 1, 0), (49, .goto (-45), 0, 4), (52, .iload_n 1, 0, 0), (53, .ireturn, 0, 0)]
theorem X0b_races_ok : mTb cX0_races X0b_races = true := by decide +kernel
def X0b_held : List (Nat × Instr × Int32 × Nat) := [(0, .aload_n 0, 0, 0), (1, .iload_n 1, 0, 0), (2, .invokevirtual 156, 0, 0), (5, .ifCond .eq 7, 0, 12), (8, .iconst (-1), (-1), 0), (9, .goto 8, 0, 17), (12, .aload_n 0, 0, 0), (13, .iload_n 1, 0, 0), (14, .invokevirtual 165, 0, 0), (17, .ireturn, 0, 0)]
theorem X0b_held_ok : mTb cX0_held X0b_held = true := by decide +kernel
def X0b_danger : List (Nat × Instr × Int32 × Nat) := [(0, .aload_n 0, 0, 0), (1, .invokevirtual 185, 0, 0), (4, .aload_n 0, 0, 0), (5, .iconst 0, 0, 0), (6, .putfield 175, 0, 0), (9, .aload_n 0, 0, 0), (10, .iconst 0, 0, 0), (11, .putfield 178, 0, 0), (14, .iconst 0, 0, 0), (15, .istore_n 1, 0, 0), (16, .iload_n 1, 0, 0), (17, .bipush 8, 8, 0), (19, .if_icmp .ge 27, 0, 46), (22, .aload_n 0, 0, 0), (23, .getfield 175, 0, 0), (26, .iload_n 1, 0, 0), (27, .ishr, 0, 0), (28, .iconst 1, 1, 0), (29, .iand, 0, 0), (30, .ifCond .ne 10, 0, 40), (33, .aload_n 0, 0, 0), (34, .iload_n 1, 0, 0), (35, .iconst 0, 0, 0), (36, .invokevirtual 188, 0, 0), (39, .pop, 0, 0), (40, .iinc 1 1, 1, 0), (43, .goto (-27), 0, 16), (46, .iconst 0, 0, 0), (47, .istore_n 1, 0, 0), (48, .iload_n 1, 0, 0), (49, .bipush 8, 8, 0), (51, .if_icmp .ge 21, 0, 72), (54, .aload_n 0, 0, 0), (55, .getfield 74, 0, 0), (58, .iload_n 1, 0, 0), (59, .aload_n 0, 0, 0), (60, .getfield 71, 0, 0), (63, .iload_n 1, 0, 0), (64, .iaload, 0, 0), (65, .iastore, 0, 0), (66, .iinc 1 1, 1, 0), (69, .goto (-21), 0, 48), (72, .aload_n 0, 0, 0), (73, .iconst 0, 0, 0), (74, .putfield 175, 0, 0), (77, .iconst 0, 0, 0), (78, .istore_n 1, 0, 0), (79, .bipush 7, 7, 0), (81, .istore_n 2, 0, 0), (82, .iload_n 2, 0, 0), (83, .ifCond .lt 58, 0, 141), (86, .aload_n 0, 0, 0), (87, .getfield 74, 0, 0), (90, .iload_n 2, 0, 0), (91, .iaload, 0, 0), (92, .istore_n 3, 0, 0), (93, .aload_n 0, 0, 0), (94, .getfield 175, 0, 0), (97, .iload_n 3, 0, 0), (98, .ishr, 0, 0), (99, .iconst 1, 1, 0), (100, .iand, 0, 0), (101, .ifCond .ne 34, 0, 135), (104, .aload_n 0, 0, 0), (105, .iconst 0, 0, 0), (106, .putfield 178, 0, 0), (109, .aload_n 0, 0, 0), (110, .iload_n 3, 0, 0), (111, .iconst 1, 1, 0), (112, .invokevirtual 188, 0, 0), (115, .istore 4, 0, 0), (117, .aload_n 0, 0, 0), (118, .iload 4, 0, 0), (120, .invokevirtual 192, 0, 0), (123, .istore 5, 0, 0), (125, .iload 5, 0, 0), (127, .ifCond .eq 8, 0, 135), (130, .iload_n 1, 0, 0), (131, .iload 4, 0, 0), (133, .ior, 0, 0), (134, .istore_n 1, 0, 0), (135, .iinc 2 (-1), (-1), 0), (138, .goto (-56), 0, 82), (141, .iload_n 1, 0, 0), (142, .ireturn, 0, 0)]
theorem X0b_danger_ok : mTb cX0_danger X0b_danger = true := by decide +kernel
def X0b_makeSteps : List (Nat × Instr × Int32 × Nat) := [(0, .iconst 0, 0, 0), (1, .istore_n 1, 0, 0), (2, .iload_n 1, 0, 0), (3, .bipush 64, 64, 0), (5, .if_icmp .ge 16, 0, 21), (8, .aload_n 0, 0, 0), (9, .getfield 68, 0, 0), (12, .iload_n 1, 0, 0), (13, .iconst 0, 0, 0), (14, .iastore, 0, 0), (15, .iinc 1 1, 1, 0), (18, .goto (-16), 0, 2), (21, .iconst 0, 0, 0), (22, .istore_n 1, 0, 0), (23, .iload_n 1, 0, 0), (24, .aload_n 0, 0, 0), (25, .getfield 153, 0, 0), (28, .if_icmp .ge 83, 0, 111), (31, .aload_n 0, 0, 0), (32, .getfield 53, 0, 0), (35, .iload_n 1, 0, 0), (36, .iaload, 0, 0), (37, .istore_n 2, 0, 0), (38, .iconst 0, 0, 0), (39, .istore_n 3, 0, 0), (40, .iload_n 3, 0, 0), (41, .bipush 12, 12, 0), (43, .if_icmp .ge 62, 0, 105), (46, .iload_n 2, 0, 0), (47, .ifCond .lt 58, 0, 105), (50, .aload_n 0, 0, 0), (51, .aload_n 0, 0, 0), (52, .getfield 13, 0, 0), (55, .aload_n 0, 0, 0), (56, .getfield 7, 0, 0), (59, .aload_n 0, 0, 0), (60, .getfield 50, 0, 0), (63, .iload_n 2, 0, 0), (64, .iaload, 0, 0), (65, .iaload, 0, 0), (66, .iaload, 0, 0), (67, .aload_n 0, 0, 0), (68, .getfield 13, 0, 0), (71, .aload_n 0, 0, 0), (72, .getfield 7, 0, 0), (75, .aload_n 0, 0, 0), (76, .getfield 50, 0, 0), (79, .iload_n 1, 0, 0), (80, .iaload, 0, 0), (81, .iaload, 0, 0), (82, .iaload, 0, 0), (83, .aload_n 0, 0, 0), (84, .getfield 47, 0, 0), (87, .iload_n 1, 0, 0), (88, .iaload, 0, 0), (89, .invokevirtual 172, 0, 0), (92, .aload_n 0, 0, 0), (93, .getfield 53, 0, 0), (96, .iload_n 2, 0, 0), (97, .iaload, 0, 0), (98, .istore_n 2, 0, 0), (99, .iinc 3 1, 1, 0), (102, .goto (-62), 0, 40), (105, .iinc 1 1, 1, 0), (108, .goto (-85), 0, 23), (111, .return_, 0, 0)]
theorem X0b_makeSteps_ok : mTb cX0_makeSteps X0b_makeSteps = true := by decide +kernel
def X0b_addSteps : List (Nat × Instr × Int32 × Nat) := [(0, .iconst 0, 0, 0), (1, .istore 4, 0, 0), (3, .iload 4, 0, 0), (5, .bipush 8, 8, 0), (7, .if_icmp .ge 96, 0, 103), (10, .iconst 0, 0, 0), (11, .istore 5, 0, 0), (13, .iload 5, 0, 0), (15, .bipush 8, 8, 0), (17, .if_icmp .ge 80, 0, 97), (20, .iload_n 1, 0, 0), (21, .iload 4, 0, 0), (23, .ishr, 0, 0), (24, .iconst 1, 1, 0), (25, .iand, 0, 0), (26, .iconst 1, 1, 0), (27, .if_icmp .ne 17, 0, 44), (30, .iload_n 2, 0, 0), (31, .iload 5, 0, 0), (33, .ishr, 0, 0), (34, .iconst 1, 1, 0), (35, .iand, 0, 0), (36, .iconst 1, 1, 0), (37, .if_icmp .ne 7, 0, 44), (40, .iconst 1, 1, 0), (41, .goto 4, 0, 45), (44, .iconst 0, 0, 0), (45, .istore 6, 0, 0), (47, .iload 6, 0, 0), (49, .ifCond .eq 42, 0, 91), (52, .iload 4, 0, 0), (54, .iload 5, 0, 0), (56, .if_icmp .ne 16, 0, 72), (59, .aload_n 0, 0, 0), (60, .getfield 150, 0, 0), (63, .iload 4, 0, 0), (65, .ishr, 0, 0), (66, .iconst 1, 1, 0), (67, .iand, 0, 0), (68, .iconst 1, 1, 0), (69, .if_icmp .eq 22, 0, 91), (72, .aload_n 0, 0, 0), (73, .getfield 68, 0, 0), (76, .iload 4, 0, 0), (78, .bipush 8, 8, 0), (80, .imul, 0, 0), (81, .iload 5, 0, 0), (83, .iadd, 0, 0), (84, .dup2, 0, 0), (85, .iaload, 0, 0), (86, .iconst 1, 1, 0), (87, .iload_n 3, 0, 0), (88, .ishl, 0, 0), (89, .ior, 0, 0), (90, .iastore, 0, 0), (91, .iinc 5 1, 1, 0), (94, .goto (-81), 0, 13), (97, .iinc 4 1, 1, 0), (100, .goto (-97), 0, 3), (103, .return_, 0, 0)]
theorem X0b_addSteps_ok : mTb cX0_addSteps X0b_addSteps = true := by decide +kernel
def X0b_walk : List (Nat × Instr × Int32 × Nat) := [(0, .iconst 1, 1, 0), (1, .iload_n 1, 0, 0), (2, .ishl, 0, 0), (3, .istore_n 3, 0, 0), (4, .iconst 1, 1, 0), (5, .istore 4, 0, 0), (7, .aload_n 0, 0, 0), (8, .dup, 0, 0), (9, .getfield 175, 0, 0), (12, .iconst 1, 1, 0), (13, .iload_n 1, 0, 0), (14, .ishl, 0, 0), (15, .ior, 0, 0), (16, .putfield 175, 0, 0), (19, .aload_n 0, 0, 0), (20, .getfield 77, 0, 0), (23, .iconst 0, 0, 0), (24, .iload_n 1, 0, 0), (25, .iastore, 0, 0), (26, .aload_n 0, 0, 0), (27, .getfield 80, 0, 0), (30, .iconst 0, 0, 0), (31, .iconst 0, 0, 0), (32, .iastore, 0, 0), (33, .iconst 0, 0, 0), (34, .istore 5, 0, 0), (36, .iload 5, 0, 0), (38, .sipush 200, 200, 0), (41, .if_icmp .ge 151, 0, 192), (44, .iload 4, 0, 0), (46, .ifCond .le 146, 0, 192), (49, .aload_n 0, 0, 0), (50, .getfield 77, 0, 0), (53, .iload 4, 0, 0), (55, .iconst 1, 1, 0), (56, .isub, 0, 0), (57, .iaload, 0, 0), (58, .istore 6, 0, 0), (60, .aload_n 0, 0, 0), (61, .getfield 80, 0, 0), (64, .iload 4, 0, 0), (66, .iconst 1, 1, 0), (67, .isub, 0, 0), (68, .iaload, 0, 0), (69, .istore 7, 0, 0), (71, .iload 7, 0, 0), (73, .bipush 8, 8, 0), (75, .if_icmp .ne 30, 0, 105), (78, .aload_n 0, 0, 0), (79, .getfield 71, 0, 0), (82, .aload_n 0, 0, 0), (83, .getfield 178, 0, 0), (86, .iload 6, 0, 0), (88, .iastore, 0, 0), (89, .aload_n 0, 0, 0), (90, .dup, 0, 0), (91, .getfield 178, 0, 0), (94, .iconst 1, 1, 0), (95, .iadd, 0, 0), (96, .putfield 178, 0, 0), (99, .iinc 4 (-1), (-1), 0), (102, .goto 84, 0, 186), (105, .aload_n 0, 0, 0), (106, .getfield 80, 0, 0), (109, .iload 4, 0, 0), (111, .iconst 1, 1, 0), (112, .isub, 0, 0), (113, .iload 7, 0, 0), (115, .iconst 1, 1, 0), (116, .iadd, 0, 0), (117, .iastore, 0, 0), (118, .aload_n 0, 0, 0), (119, .iload 6, 0, 0), (121, .iload 7, 0, 0), (123, .iload_n 2, 0, 0), (124, .invokevirtual 181, 0, 0), (127, .istore 8, 0, 0), (129, .iload 8, 0, 0), (131, .ifCond .eq 55, 0, 186), (134, .aload_n 0, 0, 0), (135, .getfield 175, 0, 0), (138, .iload 7, 0, 0), (140, .ishr, 0, 0), (141, .iconst 1, 1, 0), (142, .iand, 0, 0), (143, .ifCond .ne 43, 0, 186), (146, .aload_n 0, 0, 0), (147, .dup, 0, 0), (148, .getfield 175, 0, 0), (151, .iconst 1, 1, 0), (152, .iload 7, 0, 0), (154, .ishl, 0, 0), (155, .ior, 0, 0), (156, .putfield 175, 0, 0), (159, .iload_n 3, 0, 0), (160, .iconst 1, 1, 0), (161, .iload 7, 0, 0), (163, .ishl, 0, 0), (164, .ior, 0, 0), (165, .istore_n 3, 0, 0), (166, .aload_n 0, 0, 0), (167, .getfield 77, 0, 0), (170, .iload 4, 0, 0), (172, .iload 7, 0, 0), (174, .iastore, 0, 0), (175, .aload_n 0, 0, 0), (176, .getfield 80, 0, 0), (179, .iload 4, 0, 0), (181, .iconst 0, 0, 0), (182, .iastore, 0, 0), (183, .iinc 4 1, 1, 0), (186, .iinc 5 1, 1, 0), (189, .goto (-153), 0, 36), (192, .iload_n 3, 0, 0), (193, .ireturn, 0, 0)]
theorem X0b_walk_ok : mTb cX0_walk X0b_walk = true := by decide +kernel
def X0b_stepFrom : List (Nat × Instr × Int32 × Nat) := [(0, .iload_n 3, 0, 0), (1, .ifCond .eq 17, 0, 18), (4, .aload_n 0, 0, 0), (5, .getfield 68, 0, 0), (8, .iload_n 2, 0, 0), (9, .bipush 8, 8, 0), (11, .imul, 0, 0), (12, .iload_n 1, 0, 0), (13, .iadd, 0, 0), (14, .iaload, 0, 0), (15, .goto 14, 0, 29), (18, .aload_n 0, 0, 0), (19, .getfield 68, 0, 0), (22, .iload_n 1, 0, 0), (23, .bipush 8, 8, 0), (25, .imul, 0, 0), (26, .iload_n 2, 0, 0), (27, .iadd, 0, 0), (28, .iaload, 0, 0), (29, .ifCond .eq 7, 0, 36), (32, .iconst 1, 1, 0), (33, .goto 4, 0, 37), (36, .iconst 0, 0, 0), (37, .ireturn, 0, 0)]
theorem X0b_stepFrom_ok : mTb cX0_stepFrom X0b_stepFrom = true := by decide +kernel
def X0b_twoThreads : List (Nat × Instr × Int32 × Nat) := [(0, .iconst 0, 0, 0), (1, .istore_n 2, 0, 0), (2, .iconst 0, 0, 0), (3, .istore_n 3, 0, 0), (4, .iload_n 3, 0, 0), (5, .bipush 8, 8, 0), (7, .if_icmp .ge 59, 0, 66), (10, .iconst 0, 0, 0), (11, .istore 4, 0, 0), (13, .iload 4, 0, 0), (15, .bipush 8, 8, 0), (17, .if_icmp .ge 43, 0, 60), (20, .iload_n 1, 0, 0), (21, .iload_n 3, 0, 0), (22, .ishr, 0, 0), (23, .iconst 1, 1, 0), (24, .iand, 0, 0), (25, .iconst 1, 1, 0), (26, .if_icmp .ne 28, 0, 54), (29, .iload_n 1, 0, 0), (30, .iload 4, 0, 0), (32, .ishr, 0, 0), (33, .iconst 1, 1, 0), (34, .iand, 0, 0), (35, .iconst 1, 1, 0), (36, .if_icmp .ne 18, 0, 54), (39, .iload_n 2, 0, 0), (40, .aload_n 0, 0, 0), (41, .getfield 68, 0, 0), (44, .iload_n 3, 0, 0), (45, .bipush 8, 8, 0), (47, .imul, 0, 0), (48, .iload 4, 0, 0), (50, .iadd, 0, 0), (51, .iaload, 0, 0), (52, .ior, 0, 0), (53, .istore_n 2, 0, 0), (54, .iinc 4 1, 1, 0), (57, .goto (-44), 0, 13), (60, .iinc 3 1, 1, 0), (63, .goto (-59), 0, 4), (66, .iload_n 2, 0, 0), (67, .iload_n 2, 0, 0), (68, .iconst 1, 1, 0), (69, .isub, 0, 0), (70, .iand, 0, 0), (71, .ifCond .eq 7, 0, 78), (74, .iconst 1, 1, 0), (75, .goto 4, 0, 79), (78, .iconst 0, 0, 0), (79, .ireturn, 0, 0)]
theorem X0b_twoThreads_ok : mTb cX0_twoThreads X0b_twoThreads = true := by decide +kernel
def X1b_alloc : List (Nat × Instr × Int32 × Nat) := [(0, .aload_n 0, 0, 0), (1, .iload_n 1, 0, 0), (2, .invokevirtual 93, 0, 0), (5, .ifCond .ne 13, 0, 18), (8, .iload_n 2, 0, 0), (9, .ifCond .lt 9, 0, 18), (12, .iload_n 2, 0, 0), (13, .bipush 7, 7, 0), (15, .if_icmp .le 5, 0, 20), (18, .iconst (-1), (-1), 0), (19, .ireturn, 0, 0), (20, .aload_n 0, 0, 0), (21, .getfield 7, 0, 0), (24, .iload_n 1, 0, 0), (25, .aload_n 0, 0, 0), (26, .getfield 7, 0, 0), (29, .iload_n 1, 0, 0), (30, .iaload, 0, 0), (31, .iconst 1, 1, 0), (32, .iload_n 2, 0, 0), (33, .ishl, 0, 0), (34, .ior, 0, 0), (35, .iastore, 0, 0), (36, .aload_n 0, 0, 0), (37, .iconst 0, 0, 0), (38, .putfield 82, 0, 0), (41, .aload_n 0, 0, 0), (42, .invokevirtual 97, 0, 0), (45, .aload_n 0, 0, 0), (46, .aload_n 0, 0, 0), (47, .getfield 59, 0, 0), (50, .iload_n 1, 0, 0), (51, .iaload, 0, 0), (52, .invokevirtual 78, 0, 0), (55, .ireturn, 0, 0)]
theorem X1b_alloc_ok : mTb cX1_alloc X1b_alloc = true := by decide +kernel
def X1b_badV : List (Nat × Instr × Int32 × Nat) := [(0, .iload_n 1, 0, 0), (1, .ifCond .lt 9, 0, 10), (4, .iload_n 1, 0, 0), (5, .bipush 11, 11, 0), (7, .if_icmp .le 7, 0, 14), (10, .iconst 1, 1, 0), (11, .goto 4, 0, 15), (14, .iconst 0, 0, 0), (15, .ireturn, 0, 0)]
theorem X1b_badV_ok : mTb cX1_badV X1b_badV = true := by decide +kernel
def X1b_workOut : List (Nat × Instr × Int32 × Nat) := [(0, .aload_n 0, 0, 0), (1, .getfield 82, 0, 0), (4, .ifCond .eq 4, 0, 8), (7, .return_, 0, 0), (8, .aload_n 0, 0, 0), (9, .iconst 1, 1, 0), (10, .putfield 82, 0, 0), (13, .iconst 0, 0, 0), (14, .istore_n 1, 0, 0), (15, .iload_n 1, 0, 0), (16, .bipush 12, 12, 0), (18, .if_icmp .ge 16, 0, 34), (21, .aload_n 0, 0, 0), (22, .getfield 59, 0, 0), (25, .iload_n 1, 0, 0), (26, .iconst 0, 0, 0), (27, .iastore, 0, 0), (28, .iinc 1 1, 1, 0), (31, .goto (-16), 0, 15), (34, .iconst 0, 0, 0), (35, .istore_n 1, 0, 0), (36, .iload_n 1, 0, 0), (37, .bipush 16, 16, 0), (39, .if_icmp .ge 16, 0, 55), (42, .aload_n 0, 0, 0), (43, .getfield 62, 0, 0), (46, .iload_n 1, 0, 0), (47, .iconst 0, 0, 0), (48, .iastore, 0, 0), (49, .iinc 1 1, 1, 0), (52, .goto (-16), 0, 36), (55, .iconst (-1), (-1), 0), (56, .istore_n 1, 0, 0), (57, .iconst 0, 0, 0), (58, .istore_n 2, 0, 0), (59, .iconst 0, 0, 0), (60, .istore_n 3, 0, 0), (61, .iload_n 3, 0, 0), (62, .sipush 226, 226, 0), (65, .if_icmp .ge 25, 0, 90), (68, .iload_n 2, 0, 0), (69, .iload_n 1, 0, 0), (70, .if_icmp .eq 20, 0, 90), (73, .iload_n 2, 0, 0), (74, .istore_n 1, 0, 0), (75, .aload_n 0, 0, 0), (76, .invokevirtual 86, 0, 0), (79, .aload_n 0, 0, 0), (80, .invokevirtual 89, 0, 0), (83, .istore_n 2, 0, 0), (84, .iinc 3 1, 1, 0), (87, .goto (-26), 0, 61), (90, .return_, 0, 0)]
theorem X1b_workOut_ok : mTb cX1_workOut X1b_workOut = true := by decide +kernel
def X1b_sweep : List (Nat × Instr × Int32 × Nat) := [(0, .iconst 0, 0, 0), (1, .istore_n 1, 0, 0), (2, .iload_n 1, 0, 0), (3, .bipush 12, 12, 0), (5, .if_icmp .ge 75, 0, 80), (8, .aload_n 0, 0, 0), (9, .getfield 59, 0, 0), (12, .iload_n 1, 0, 0), (13, .aload_n 0, 0, 0), (14, .getfield 59, 0, 0), (17, .iload_n 1, 0, 0), (18, .iaload, 0, 0), (19, .aload_n 0, 0, 0), (20, .getfield 7, 0, 0), (23, .iload_n 1, 0, 0), (24, .iaload, 0, 0), (25, .ior, 0, 0), (26, .iastore, 0, 0), (27, .iconst 0, 0, 0), (28, .istore_n 2, 0, 0), (29, .iload_n 2, 0, 0), (30, .bipush 12, 12, 0), (32, .if_icmp .ge 42, 0, 74), (35, .aload_n 0, 0, 0), (36, .getfield 13, 0, 0), (39, .iload_n 1, 0, 0), (40, .iaload, 0, 0), (41, .iload_n 2, 0, 0), (42, .ishr, 0, 0), (43, .iconst 1, 1, 0), (44, .iand, 0, 0), (45, .iconst 1, 1, 0), (46, .if_icmp .ne 22, 0, 68), (49, .aload_n 0, 0, 0), (50, .getfield 59, 0, 0), (53, .iload_n 1, 0, 0), (54, .aload_n 0, 0, 0), (55, .getfield 59, 0, 0), (58, .iload_n 1, 0, 0), (59, .iaload, 0, 0), (60, .aload_n 0, 0, 0), (61, .getfield 59, 0, 0), (64, .iload_n 2, 0, 0), (65, .iaload, 0, 0), (66, .ior, 0, 0), (67, .iastore, 0, 0), (68, .iinc 2 1, 1, 0), (71, .goto (-42), 0, 29), (74, .iinc 1 1, 1, 0), (77, .goto (-75), 0, 2), (80, .iconst 0, 0, 0), (81, .istore_n 1, 0, 0), (82, .iload_n 1, 0, 0), (83, .aload_n 0, 0, 0), (84, .getfield 71, 0, 0), (87, .if_icmp .ge 80, 0, 167), (90, .iconst 0, 0, 0), (91, .istore_n 2, 0, 0), (92, .iload_n 2, 0, 0), (93, .bipush 8, 8, 0), (95, .if_icmp .ge 66, 0, 161), (98, .aload_n 0, 0, 0), (99, .getfield 59, 0, 0), (102, .aload_n 0, 0, 0), (103, .getfield 19, 0, 0), (106, .iload_n 1, 0, 0), (107, .iaload, 0, 0), (108, .iaload, 0, 0), (109, .iload_n 2, 0, 0), (110, .ishr, 0, 0), (111, .iconst 1, 1, 0), (112, .iand, 0, 0), (113, .iconst 1, 1, 0), (114, .if_icmp .ne 41, 0, 155), (117, .aload_n 0, 0, 0), (118, .getfield 59, 0, 0), (121, .aload_n 0, 0, 0), (122, .getfield 16, 0, 0), (125, .iload_n 1, 0, 0), (126, .iaload, 0, 0), (127, .aload_n 0, 0, 0), (128, .getfield 59, 0, 0), (131, .aload_n 0, 0, 0), (132, .getfield 16, 0, 0), (135, .iload_n 1, 0, 0), (136, .iaload, 0, 0), (137, .iaload, 0, 0), (138, .aload_n 0, 0, 0), (139, .getfield 62, 0, 0), (142, .iload_n 2, 0, 0), (143, .iconst 2, 2, 0), (144, .imul, 0, 0), (145, .aload_n 0, 0, 0), (146, .getfield 22, 0, 0), (149, .iload_n 1, 0, 0), (150, .iaload, 0, 0), (151, .iadd, 0, 0), (152, .iaload, 0, 0), (153, .ior, 0, 0), (154, .iastore, 0, 0), (155, .iinc 2 1, 1, 0), (158, .goto (-66), 0, 92), (161, .iinc 1 1, 1, 0), (164, .goto (-82), 0, 82), (167, .iconst 0, 0, 0), (168, .istore_n 1, 0, 0), (169, .iload_n 1, 0, 0), (170, .aload_n 0, 0, 0), (171, .getfield 75, 0, 0), (174, .if_icmp .ge 84, 0, 258), (177, .iconst 0, 0, 0), (178, .istore_n 2, 0, 0), (179, .iload_n 2, 0, 0), (180, .bipush 8, 8, 0), (182, .if_icmp .ge 70, 0, 252), (185, .aload_n 0, 0, 0), (186, .getfield 59, 0, 0), (189, .aload_n 0, 0, 0), (190, .getfield 25, 0, 0), (193, .iload_n 1, 0, 0), (194, .iaload, 0, 0), (195, .iaload, 0, 0), (196, .iload_n 2, 0, 0), (197, .ishr, 0, 0), (198, .iconst 1, 1, 0), (199, .iand, 0, 0), (200, .iconst 1, 1, 0), (201, .if_icmp .ne 45, 0, 246), (204, .aload_n 0, 0, 0), (205, .getfield 62, 0, 0), (208, .iload_n 2, 0, 0), (209, .iconst 2, 2, 0), (210, .imul, 0, 0), (211, .aload_n 0, 0, 0), (212, .getfield 31, 0, 0), (215, .iload_n 1, 0, 0), (216, .iaload, 0, 0), (217, .iadd, 0, 0), (218, .aload_n 0, 0, 0), (219, .getfield 62, 0, 0), (222, .iload_n 2, 0, 0), (223, .iconst 2, 2, 0), (224, .imul, 0, 0), (225, .aload_n 0, 0, 0), (226, .getfield 31, 0, 0), (229, .iload_n 1, 0, 0), (230, .iaload, 0, 0), (231, .iadd, 0, 0), (232, .iaload, 0, 0), (233, .aload_n 0, 0, 0), (234, .getfield 59, 0, 0), (237, .aload_n 0, 0, 0), (238, .getfield 28, 0, 0), (241, .iload_n 1, 0, 0), (242, .iaload, 0, 0), (243, .iaload, 0, 0), (244, .ior, 0, 0), (245, .iastore, 0, 0), (246, .iinc 2 1, 1, 0), (249, .goto (-70), 0, 179), (252, .iinc 1 1, 1, 0), (255, .goto (-86), 0, 169), (258, .return_, 0, 0)]
theorem X1b_sweep_ok : mTb cX1_sweep X1b_sweep = true := by decide +kernel
def X1b_total : List (Nat × Instr × Int32 × Nat) := [(0, .iconst 0, 0, 0), (1, .istore_n 1, 0, 0), (2, .iconst 0, 0, 0), (3, .istore_n 2, 0, 0), (4, .iload_n 2, 0, 0), (5, .bipush 12, 12, 0), (7, .if_icmp .ge 24, 0, 31), (10, .aload_n 0, 0, 0), (11, .aload_n 0, 0, 0), (12, .getfield 59, 0, 0), (15, .iload_n 2, 0, 0), (16, .iaload, 0, 0), (17, .invokevirtual 78, 0, 0), (20, .istore_n 3, 0, 0), (21, .iload_n 1, 0, 0), (22, .iload_n 3, 0, 0), (23, .iadd, 0, 0), (24, .istore_n 1, 0, 0), (25, .iinc 2 1, 1, 0), (28, .goto (-24), 0, 4), (31, .iconst 0, 0, 0), (32, .istore_n 2, 0, 0), (33, .iload_n 2, 0, 0), (34, .bipush 16, 16, 0), (36, .if_icmp .ge 24, 0, 60), (39, .aload_n 0, 0, 0), (40, .aload_n 0, 0, 0), (41, .getfield 62, 0, 0), (44, .iload_n 2, 0, 0), (45, .iaload, 0, 0), (46, .invokevirtual 78, 0, 0), (49, .istore_n 3, 0, 0), (50, .iload_n 1, 0, 0), (51, .iload_n 3, 0, 0), (52, .iadd, 0, 0), (53, .istore_n 1, 0, 0), (54, .iinc 2 1, 1, 0), (57, .goto (-24), 0, 33), (60, .iload_n 1, 0, 0), (61, .ireturn, 0, 0)]
theorem X1b_total_ok : mTb cX1_total X1b_total = true := by decide +kernel
def X1b_size : List (Nat × Instr × Int32 × Nat) := [(0, .iconst 0, 0, 0), (1, .istore_n 2, 0, 0), (2, .iconst 0, 0, 0), (3, .istore_n 3, 0, 0), (4, .iload_n 3, 0, 0), (5, .bipush 8, 8, 0), (7, .if_icmp .ge 17, 0, 24), (10, .iload_n 2, 0, 0), (11, .iload_n 1, 0, 0), (12, .iload_n 3, 0, 0), (13, .ishr, 0, 0), (14, .iconst 1, 1, 0), (15, .iand, 0, 0), (16, .iadd, 0, 0), (17, .istore_n 2, 0, 0), (18, .iinc 3 1, 1, 0), (21, .goto (-17), 0, 4), (24, .iload_n 2, 0, 0), (25, .ireturn, 0, 0)]
theorem X1b_size_ok : mTb cX1_size X1b_size = true := by decide +kernel
def X1b_copy : List (Nat × Instr × Int32 × Nat) := [(0, .aload_n 0, 0, 0), (1, .iload_n 1, 0, 0), (2, .invokevirtual 93, 0, 0), (5, .ifCond .ne 11, 0, 16), (8, .aload_n 0, 0, 0), (9, .iload_n 2, 0, 0), (10, .invokevirtual 93, 0, 0), (13, .ifCond .eq 5, 0, 18), (16, .iconst (-1), (-1), 0), (17, .ireturn, 0, 0), (18, .aload_n 0, 0, 0), (19, .getfield 13, 0, 0), (22, .iload_n 1, 0, 0), (23, .aload_n 0, 0, 0), (24, .getfield 13, 0, 0), (27, .iload_n 1, 0, 0), (28, .iaload, 0, 0), (29, .iconst 1, 1, 0), (30, .iload_n 2, 0, 0), (31, .ishl, 0, 0), (32, .ior, 0, 0), (33, .iastore, 0, 0), (34, .aload_n 0, 0, 0), (35, .iconst 0, 0, 0), (36, .putfield 82, 0, 0), (39, .aload_n 0, 0, 0), (40, .invokevirtual 97, 0, 0), (43, .aload_n 0, 0, 0), (44, .aload_n 0, 0, 0), (45, .getfield 59, 0, 0), (48, .iload_n 1, 0, 0), (49, .iaload, 0, 0), (50, .invokevirtual 78, 0, 0), (53, .ireturn, 0, 0)]
theorem X1b_copy_ok : mTb cX1_copy X1b_copy = true := by decide +kernel
def X1b_load : List (Nat × Instr × Int32 × Nat) := [(0, .aload_n 0, 0, 0), (1, .iload_n 1, 0, 0), (2, .invokevirtual 93, 0, 0), (5, .ifCond .ne 19, 0, 24), (8, .aload_n 0, 0, 0), (9, .iload_n 2, 0, 0), (10, .invokevirtual 93, 0, 0), (13, .ifCond .ne 11, 0, 24), (16, .aload_n 0, 0, 0), (17, .iload_n 3, 0, 0), (18, .invokevirtual 100, 0, 0), (21, .ifCond .eq 5, 0, 26), (24, .iconst (-1), (-1), 0), (25, .ireturn, 0, 0), (26, .aload_n 0, 0, 0), (27, .getfield 71, 0, 0), (30, .bipush 20, 20, 0), (32, .if_icmp .ne 6, 0, 38), (35, .bipush (-2), (-2), 0), (37, .ireturn, 0, 0), (38, .aload_n 0, 0, 0), (39, .getfield 16, 0, 0), (42, .aload_n 0, 0, 0), (43, .getfield 71, 0, 0), (46, .iload_n 1, 0, 0), (47, .iastore, 0, 0), (48, .aload_n 0, 0, 0), (49, .getfield 19, 0, 0), (52, .aload_n 0, 0, 0), (53, .getfield 71, 0, 0), (56, .iload_n 2, 0, 0), (57, .iastore, 0, 0), (58, .aload_n 0, 0, 0), (59, .getfield 22, 0, 0), (62, .aload_n 0, 0, 0), (63, .getfield 71, 0, 0), (66, .iload_n 3, 0, 0), (67, .iastore, 0, 0), (68, .aload_n 0, 0, 0), (69, .aload_n 0, 0, 0), (70, .getfield 71, 0, 0), (73, .iconst 1, 1, 0), (74, .iadd, 0, 0), (75, .putfield 71, 0, 0), (78, .aload_n 0, 0, 0), (79, .iconst 0, 0, 0), (80, .putfield 82, 0, 0), (83, .aload_n 0, 0, 0), (84, .invokevirtual 97, 0, 0), (87, .aload_n 0, 0, 0), (88, .aload_n 0, 0, 0), (89, .getfield 59, 0, 0), (92, .iload_n 1, 0, 0), (93, .iaload, 0, 0), (94, .invokevirtual 78, 0, 0), (97, .ireturn, 0, 0)]
theorem X1b_load_ok : mTb cX1_load X1b_load = true := by decide +kernel
def X1b_badF : List (Nat × Instr × Int32 × Nat) := [(0, .iload_n 1, 0, 0), (1, .ifCond .lt 8, 0, 9), (4, .iload_n 1, 0, 0), (5, .iconst 1, 1, 0), (6, .if_icmp .le 7, 0, 13), (9, .iconst 1, 1, 0), (10, .goto 4, 0, 14), (13, .iconst 0, 0, 0), (14, .ireturn, 0, 0)]
theorem X1b_badF_ok : mTb cX1_badF X1b_badF = true := by decide +kernel
def X1b_store : List (Nat × Instr × Int32 × Nat) := [(0, .aload_n 0, 0, 0), (1, .iload_n 1, 0, 0), (2, .invokevirtual 93, 0, 0), (5, .ifCond .ne 19, 0, 24), (8, .aload_n 0, 0, 0), (9, .iload_n 3, 0, 0), (10, .invokevirtual 93, 0, 0), (13, .ifCond .ne 11, 0, 24), (16, .aload_n 0, 0, 0), (17, .iload_n 2, 0, 0), (18, .invokevirtual 100, 0, 0), (21, .ifCond .eq 5, 0, 26), (24, .iconst (-1), (-1), 0), (25, .ireturn, 0, 0), (26, .aload_n 0, 0, 0), (27, .getfield 75, 0, 0), (30, .bipush 20, 20, 0), (32, .if_icmp .ne 6, 0, 38), (35, .bipush (-2), (-2), 0), (37, .ireturn, 0, 0), (38, .aload_n 0, 0, 0), (39, .getfield 25, 0, 0), (42, .aload_n 0, 0, 0), (43, .getfield 75, 0, 0), (46, .iload_n 1, 0, 0), (47, .iastore, 0, 0), (48, .aload_n 0, 0, 0), (49, .getfield 28, 0, 0), (52, .aload_n 0, 0, 0), (53, .getfield 75, 0, 0), (56, .iload_n 3, 0, 0), (57, .iastore, 0, 0), (58, .aload_n 0, 0, 0), (59, .getfield 31, 0, 0), (62, .aload_n 0, 0, 0), (63, .getfield 75, 0, 0), (66, .iload_n 2, 0, 0), (67, .iastore, 0, 0), (68, .aload_n 0, 0, 0), (69, .aload_n 0, 0, 0), (70, .getfield 75, 0, 0), (73, .iconst 1, 1, 0), (74, .iadd, 0, 0), (75, .putfield 75, 0, 0), (78, .aload_n 0, 0, 0), (79, .iconst 0, 0, 0), (80, .putfield 82, 0, 0), (83, .iconst 0, 0, 0), (84, .ireturn, 0, 0)]
theorem X1b_store_ok : mTb cX1_store X1b_store = true := by decide +kernel
def X1b_once : List (Nat × Instr × Int32 × Nat) := [(0, .iload_n 1, 0, 0), (1, .ifCond .lt 9, 0, 10), (4, .iload_n 1, 0, 0), (5, .bipush 7, 7, 0), (7, .if_icmp .le 5, 0, 12), (10, .iconst (-1), (-1), 0), (11, .ireturn, 0, 0), (12, .aload_n 0, 0, 0), (13, .getfield 34, 0, 0), (16, .iload_n 1, 0, 0), (17, .baload, 0, 0), (18, .ifCond .eq 7, 0, 25), (21, .iconst 1, 1, 0), (22, .goto 4, 0, 26), (25, .iconst 0, 0, 0), (26, .istore_n 3, 0, 0), (27, .aload_n 0, 0, 0), (28, .getfield 34, 0, 0), (31, .iload_n 1, 0, 0), (32, .iload_n 2, 0, 0), (33, .bastore, 0, 0), (34, .iload_n 3, 0, 0), (35, .ireturn, 0, 0)]
theorem X1b_once_ok : mTb cX1_once X1b_once = true := by decide +kernel
def X1b_region : List (Nat × Instr × Int32 × Nat) := [(0, .iload_n 1, 0, 0), (1, .ifCond .lt 29, 0, 30), (4, .iload_n 1, 0, 0), (5, .iconst 3, 3, 0), (6, .if_icmp .gt 24, 0, 30), (9, .aload_n 0, 0, 0), (10, .iload_n 2, 0, 0), (11, .invokevirtual 93, 0, 0), (14, .ifCond .ne 16, 0, 30), (17, .iload_n 3, 0, 0), (18, .iconst (-1), (-1), 0), (19, .if_icmp .lt 11, 0, 30), (22, .iload_n 3, 0, 0), (23, .aload_n 0, 0, 0), (24, .getfield 103, 0, 0), (27, .if_icmp .lt 5, 0, 32), (30, .iconst (-1), (-1), 0), (31, .ireturn, 0, 0), (32, .iload_n 3, 0, 0), (33, .ifCond .lt 15, 0, 48), (36, .aload_n 0, 0, 0), (37, .getfield 38, 0, 0), (40, .iload_n 3, 0, 0), (41, .iaload, 0, 0), (42, .iload_n 1, 0, 0), (43, .if_icmp .eq 5, 0, 48), (46, .iconst (-1), (-1), 0), (47, .ireturn, 0, 0), (48, .aload_n 0, 0, 0), (49, .getfield 103, 0, 0), (52, .bipush 12, 12, 0), (54, .if_icmp .ne 6, 0, 60), (57, .bipush (-2), (-2), 0), (59, .ireturn, 0, 0), (60, .aload_n 0, 0, 0), (61, .getfield 38, 0, 0), (64, .aload_n 0, 0, 0), (65, .getfield 103, 0, 0), (68, .iload_n 1, 0, 0), (69, .iastore, 0, 0), (70, .aload_n 0, 0, 0), (71, .getfield 41, 0, 0), (74, .aload_n 0, 0, 0), (75, .getfield 103, 0, 0), (78, .iload_n 2, 0, 0), (79, .iastore, 0, 0), (80, .aload_n 0, 0, 0), (81, .getfield 44, 0, 0), (84, .aload_n 0, 0, 0), (85, .getfield 103, 0, 0), (88, .iload_n 3, 0, 0), (89, .iastore, 0, 0), (90, .aload_n 0, 0, 0), (91, .aload_n 0, 0, 0), (92, .getfield 103, 0, 0), (95, .iconst 1, 1, 0), (96, .iadd, 0, 0), (97, .putfield 103, 0, 0), (100, .aload_n 0, 0, 0), (101, .getfield 103, 0, 0), (104, .iconst 1, 1, 0), (105, .isub, 0, 0), (106, .ireturn, 0, 0)]
theorem X1b_region_ok : mTb cX1_region X1b_region = true := by decide +kernel
def X1b_access : List (Nat × Instr × Int32 × Nat) := [(0, .aload_n 0, 0, 0), (1, .iload_n 1, 0, 0), (2, .invokevirtual 106, 0, 0), (5, .ifCond .ne 19, 0, 24), (8, .aload_n 0, 0, 0), (9, .iload_n 2, 0, 0), (10, .invokevirtual 93, 0, 0), (13, .ifCond .ne 11, 0, 24), (16, .aload_n 0, 0, 0), (17, .iload_n 3, 0, 0), (18, .invokevirtual 100, 0, 0), (21, .ifCond .eq 5, 0, 26), (24, .iconst (-1), (-1), 0), (25, .ireturn, 0, 0), (26, .aload_n 0, 0, 0), (27, .getfield 109, 0, 0), (30, .bipush 16, 16, 0), (32, .if_icmp .ne 6, 0, 38), (35, .bipush (-2), (-2), 0), (37, .ireturn, 0, 0), (38, .aload_n 0, 0, 0), (39, .getfield 47, 0, 0), (42, .aload_n 0, 0, 0), (43, .getfield 109, 0, 0), (46, .iload_n 1, 0, 0), (47, .iastore, 0, 0), (48, .aload_n 0, 0, 0), (49, .getfield 50, 0, 0), (52, .aload_n 0, 0, 0), (53, .getfield 109, 0, 0), (56, .iload_n 2, 0, 0), (57, .iastore, 0, 0), (58, .aload_n 0, 0, 0), (59, .getfield 53, 0, 0), (62, .aload_n 0, 0, 0), (63, .getfield 109, 0, 0), (66, .iload_n 3, 0, 0), (67, .iastore, 0, 0), (68, .aload_n 0, 0, 0), (69, .getfield 56, 0, 0), (72, .aload_n 0, 0, 0), (73, .getfield 109, 0, 0), (76, .iload 4, 0, 0), (78, .bastore, 0, 0), (79, .aload_n 0, 0, 0), (80, .aload_n 0, 0, 0), (81, .getfield 109, 0, 0), (84, .iconst 1, 1, 0), (85, .iadd, 0, 0), (86, .putfield 109, 0, 0), (89, .aload_n 0, 0, 0), (90, .getfield 109, 0, 0), (93, .iconst 1, 1, 0), (94, .isub, 0, 0), (95, .ireturn, 0, 0)]
theorem X1b_access_ok : mTb cX1_access X1b_access = true := by decide +kernel
def X1b_badPlace : List (Nat × Instr × Int32 × Nat) := [(0, .iload_n 1, 0, 0), (1, .ifCond .lt 13, 0, 14), (4, .iload_n 1, 0, 0), (5, .iconst 4, 4, 0), (6, .aload_n 0, 0, 0), (7, .getfield 103, 0, 0), (10, .iadd, 0, 0), (11, .if_icmp .lt 7, 0, 18), (14, .iconst 1, 1, 0), (15, .goto 4, 0, 19), (18, .iconst 0, 0, 0), (19, .ireturn, 0, 0)]
theorem X1b_badPlace_ok : mTb cX1_badPlace X1b_badPlace = true := by decide +kernel
def X1b_pointsTo : List (Nat × Instr × Int32 × Nat) := [(0, .aload_n 0, 0, 0), (1, .iload_n 1, 0, 0), (2, .invokevirtual 93, 0, 0), (5, .ifCond .eq 5, 0, 10), (8, .iconst (-1), (-1), 0), (9, .ireturn, 0, 0), (10, .aload_n 0, 0, 0), (11, .invokevirtual 97, 0, 0), (14, .aload_n 0, 0, 0), (15, .getfield 59, 0, 0), (18, .iload_n 1, 0, 0), (19, .iaload, 0, 0), (20, .ireturn, 0, 0)]
theorem X1b_pointsTo_ok : mTb cX1_pointsTo X1b_pointsTo = true := by decide +kernel
def X1b_holds : List (Nat × Instr × Int32 × Nat) := [(0, .iload_n 1, 0, 0), (1, .ifCond .lt 17, 0, 18), (4, .iload_n 1, 0, 0), (5, .bipush 7, 7, 0), (7, .if_icmp .gt 11, 0, 18), (10, .aload_n 0, 0, 0), (11, .iload_n 2, 0, 0), (12, .invokevirtual 100, 0, 0), (15, .ifCond .eq 5, 0, 20), (18, .iconst (-1), (-1), 0), (19, .ireturn, 0, 0), (20, .aload_n 0, 0, 0), (21, .invokevirtual 97, 0, 0), (24, .aload_n 0, 0, 0), (25, .getfield 62, 0, 0), (28, .iload_n 1, 0, 0), (29, .iconst 2, 2, 0), (30, .imul, 0, 0), (31, .iload_n 2, 0, 0), (32, .iadd, 0, 0), (33, .iaload, 0, 0), (34, .ireturn, 0, 0)]
theorem X1b_holds_ok : mTb cX1_holds X1b_holds = true := by decide +kernel
def X1b_race : List (Nat × Instr × Int32 × Nat) := [(0, .iload_n 1, 0, 0), (1, .ifCond .lt 23, 0, 24), (4, .iload_n 1, 0, 0), (5, .aload_n 0, 0, 0), (6, .getfield 109, 0, 0), (9, .if_icmp .ge 15, 0, 24), (12, .iload_n 2, 0, 0), (13, .ifCond .lt 11, 0, 24), (16, .iload_n 2, 0, 0), (17, .aload_n 0, 0, 0), (18, .getfield 109, 0, 0), (21, .if_icmp .lt 5, 0, 26), (24, .iconst 0, 0, 0), (25, .ireturn, 0, 0), (26, .aload_n 0, 0, 0), (27, .aload_n 0, 0, 0), (28, .getfield 47, 0, 0), (31, .iload_n 1, 0, 0), (32, .iaload, 0, 0), (33, .invokevirtual 112, 0, 0), (36, .aload_n 0, 0, 0), (37, .aload_n 0, 0, 0), (38, .getfield 47, 0, 0), (41, .iload_n 2, 0, 0), (42, .iaload, 0, 0), (43, .invokevirtual 112, 0, 0), (46, .if_icmp .eq 36, 0, 82), (49, .aload_n 0, 0, 0), (50, .getfield 53, 0, 0), (53, .iload_n 1, 0, 0), (54, .iaload, 0, 0), (55, .aload_n 0, 0, 0), (56, .getfield 53, 0, 0), (59, .iload_n 2, 0, 0), (60, .iaload, 0, 0), (61, .if_icmp .ne 21, 0, 82), (64, .aload_n 0, 0, 0), (65, .getfield 56, 0, 0), (68, .iload_n 1, 0, 0), (69, .baload, 0, 0), (70, .ifCond .ne 14, 0, 84), (73, .aload_n 0, 0, 0), (74, .getfield 56, 0, 0), (77, .iload_n 2, 0, 0), (78, .baload, 0, 0), (79, .ifCond .ne 5, 0, 84), (82, .iconst 0, 0, 0), (83, .ireturn, 0, 0), (84, .aload_n 0, 0, 0), (85, .invokevirtual 97, 0, 0), (88, .aload_n 0, 0, 0), (89, .getfield 59, 0, 0), (92, .aload_n 0, 0, 0), (93, .getfield 50, 0, 0), (96, .iload_n 1, 0, 0), (97, .iaload, 0, 0), (98, .iaload, 0, 0), (99, .aload_n 0, 0, 0), (100, .getfield 59, 0, 0), (103, .aload_n 0, 0, 0), (104, .getfield 50, 0, 0), (107, .iload_n 2, 0, 0), (108, .iaload, 0, 0), (109, .iaload, 0, 0), (110, .iand, 0, 0), (111, .ifCond .ne 5, 0, 116), (114, .iconst 0, 0, 0), (115, .ireturn, 0, 0), (116, .aload_n 0, 0, 0), (117, .aload_n 0, 0, 0), (118, .getfield 47, 0, 0), (121, .iload_n 1, 0, 0), (122, .iaload, 0, 0), (123, .invokevirtual 115, 0, 0), (126, .aload_n 0, 0, 0), (127, .aload_n 0, 0, 0), (128, .getfield 47, 0, 0), (131, .iload_n 2, 0, 0), (132, .iaload, 0, 0), (133, .invokevirtual 115, 0, 0), (136, .iand, 0, 0), (137, .ifCond .ne 7, 0, 144), (140, .iconst 1, 1, 0), (141, .goto 4, 0, 145), (144, .iconst 0, 0, 0), (145, .ireturn, 0, 0)]
theorem X1b_race_ok : mTb cX1_race X1b_race = true := by decide +kernel
def X1b_threadAt : List (Nat × Instr × Int32 × Nat) := [(0, .iload_n 1, 0, 0), (1, .iconst 4, 4, 0), (2, .if_icmp .ge 7, 0, 9), (5, .iload_n 1, 0, 0), (6, .goto 11, 0, 17), (9, .aload_n 0, 0, 0), (10, .getfield 38, 0, 0), (13, .iload_n 1, 0, 0), (14, .iconst 4, 4, 0), (15, .isub, 0, 0), (16, .iaload, 0, 0), (17, .ireturn, 0, 0)]
theorem X1b_threadAt_ok : mTb cX1_threadAt X1b_threadAt = true := by decide +kernel
def X1b_held : List (Nat × Instr × Int32 × Nat) := [(0, .aload_n 0, 0, 0), (1, .iload_n 1, 0, 0), (2, .invokevirtual 106, 0, 0), (5, .ifCond .eq 5, 0, 10), (8, .iconst (-1), (-1), 0), (9, .ireturn, 0, 0), (10, .aload_n 0, 0, 0), (11, .invokevirtual 97, 0, 0), (14, .iconst 0, 0, 0), (15, .istore_n 2, 0, 0), (16, .iload_n 1, 0, 0), (17, .iconst 4, 4, 0), (18, .isub, 0, 0), (19, .istore_n 3, 0, 0), (20, .iconst 0, 0, 0), (21, .istore 4, 0, 0), (23, .iload 4, 0, 0), (25, .bipush 12, 12, 0), (27, .if_icmp .ge 71, 0, 98), (30, .iload_n 3, 0, 0), (31, .ifCond .lt 67, 0, 98), (34, .iconst 0, 0, 0), (35, .istore 5, 0, 0), (37, .iload 5, 0, 0), (39, .bipush 8, 8, 0), (41, .if_icmp .ge 44, 0, 85), (44, .aload_n 0, 0, 0), (45, .getfield 59, 0, 0), (48, .aload_n 0, 0, 0), (49, .getfield 41, 0, 0), (52, .iload_n 3, 0, 0), (53, .iaload, 0, 0), (54, .iaload, 0, 0), (55, .iconst 1, 1, 0), (56, .iload 5, 0, 0), (58, .ishl, 0, 0), (59, .if_icmp .ne 20, 0, 79), (62, .aload_n 0, 0, 0), (63, .getfield 34, 0, 0), (66, .iload 5, 0, 0), (68, .baload, 0, 0), (69, .ifCond .eq 10, 0, 79), (72, .iload_n 2, 0, 0), (73, .iconst 1, 1, 0), (74, .iload 5, 0, 0), (76, .ishl, 0, 0), (77, .ior, 0, 0), (78, .istore_n 2, 0, 0), (79, .iinc 5 1, 1, 0), (82, .goto (-45), 0, 37), (85, .aload_n 0, 0, 0), (86, .getfield 44, 0, 0), (89, .iload_n 3, 0, 0), (90, .iaload, 0, 0), (91, .istore_n 3, 0, 0), (92, .iinc 4 1, 1, 0), (95, .goto (-72), 0, 23), (98, .iload_n 2, 0, 0), (99, .ireturn, 0, 0)]
theorem X1b_held_ok : mTb cX1_held X1b_held = true := by decide +kernel
def X1b_races : List (Nat × Instr × Int32 × Nat) := [(0, .iconst 0, 0, 0), (1, .istore_n 1, 0, 0), (2, .iconst 0, 0, 0), (3, .istore_n 2, 0, 0), (4, .iload_n 2, 0, 0), (5, .aload_n 0, 0, 0), (6, .getfield 109, 0, 0), (9, .if_icmp .ge 39, 0, 48), (12, .iload_n 2, 0, 0), (13, .iconst 1, 1, 0), (14, .iadd, 0, 0), (15, .istore_n 3, 0, 0), (16, .iload_n 3, 0, 0), (17, .aload_n 0, 0, 0), (18, .getfield 109, 0, 0), (21, .if_icmp .ge 21, 0, 42), (24, .aload_n 0, 0, 0), (25, .iload_n 2, 0, 0), (26, .iload_n 3, 0, 0), (27, .invokevirtual 118, 0, 0), (30, .ifCond .eq 6, 0, 36), (33, .iinc 1 1, 1, 0), (36, .iinc 3 1, 1, 0), (39, .goto (-23), 0, 16), (42, .iinc 2 1, 1, 0), (45, .goto (-41), 0, 4), (48, .iload_n 1, 0, 0), (49, .ireturn, 0, 0)]
theorem X1b_races_ok : mTb cX1_races X1b_races = true := by decide +kernel
def X1b_danger : List (Nat × Instr × Int32 × Nat) := [(0, .aload_n 0, 0, 0), (1, .invokevirtual 97, 0, 0), (4, .aload_n 0, 0, 0), (5, .invokevirtual 129, 0, 0), (8, .aload_n 0, 0, 0), (9, .invokevirtual 132, 0, 0), (12, .iconst 0, 0, 0), (13, .istore_n 1, 0, 0), (14, .iconst 0, 0, 0), (15, .istore_n 2, 0, 0), (16, .iload_n 2, 0, 0), (17, .bipush 8, 8, 0), (19, .if_icmp .ge 24, 0, 43), (22, .aload_n 0, 0, 0), (23, .iload_n 2, 0, 0), (24, .invokevirtual 135, 0, 0), (27, .iconst 1, 1, 0), (28, .if_icmp .le 9, 0, 37), (31, .iload_n 1, 0, 0), (32, .iconst 1, 1, 0), (33, .iload_n 2, 0, 0), (34, .ishl, 0, 0), (35, .ior, 0, 0), (36, .istore_n 1, 0, 0), (37, .iinc 2 1, 1, 0), (40, .goto (-24), 0, 16), (43, .iload_n 1, 0, 0), (44, .ireturn, 0, 0)]
theorem X1b_danger_ok : mTb cX1_danger X1b_danger = true := by decide +kernel
def X1b_allSteps : List (Nat × Instr × Int32 × Nat) := [(0, .iconst 0, 0, 0), (1, .istore_n 1, 0, 0), (2, .iload_n 1, 0, 0), (3, .bipush 32, 32, 0), (5, .if_icmp .ge 16, 0, 21), (8, .aload_n 0, 0, 0), (9, .getfield 65, 0, 0), (12, .iload_n 1, 0, 0), (13, .iconst 0, 0, 0), (14, .iastore, 0, 0), (15, .iinc 1 1, 1, 0), (18, .goto (-16), 0, 2), (21, .iconst 0, 0, 0), (22, .istore_n 1, 0, 0), (23, .iload_n 1, 0, 0), (24, .aload_n 0, 0, 0), (25, .getfield 103, 0, 0), (28, .if_icmp .ge 63, 0, 91), (31, .aload_n 0, 0, 0), (32, .getfield 44, 0, 0), (35, .iload_n 1, 0, 0), (36, .iaload, 0, 0), (37, .istore_n 2, 0, 0), (38, .iconst 0, 0, 0), (39, .istore_n 3, 0, 0), (40, .iload_n 3, 0, 0), (41, .bipush 12, 12, 0), (43, .if_icmp .ge 42, 0, 85), (46, .iload_n 2, 0, 0), (47, .ifCond .lt 38, 0, 85), (50, .aload_n 0, 0, 0), (51, .aload_n 0, 0, 0), (52, .getfield 38, 0, 0), (55, .iload_n 1, 0, 0), (56, .iaload, 0, 0), (57, .aload_n 0, 0, 0), (58, .getfield 41, 0, 0), (61, .iload_n 2, 0, 0), (62, .iaload, 0, 0), (63, .aload_n 0, 0, 0), (64, .getfield 41, 0, 0), (67, .iload_n 1, 0, 0), (68, .iaload, 0, 0), (69, .invokevirtual 122, 0, 0), (72, .aload_n 0, 0, 0), (73, .getfield 44, 0, 0), (76, .iload_n 2, 0, 0), (77, .iaload, 0, 0), (78, .istore_n 2, 0, 0), (79, .iinc 3 1, 1, 0), (82, .goto (-42), 0, 40), (85, .iinc 1 1, 1, 0), (88, .goto (-65), 0, 23), (91, .return_, 0, 0)]
theorem X1b_allSteps_ok : mTb cX1_allSteps X1b_allSteps = true := by decide +kernel
def X1b_step : List (Nat × Instr × Int32 × Nat) := [(0, .iconst 0, 0, 0), (1, .istore 4, 0, 0), (3, .iload 4, 0, 0), (5, .bipush 8, 8, 0), (7, .if_icmp .ge 85, 0, 92), (10, .aload_n 0, 0, 0), (11, .getfield 59, 0, 0), (14, .iload_n 2, 0, 0), (15, .iaload, 0, 0), (16, .iload 4, 0, 0), (18, .ishr, 0, 0), (19, .iconst 1, 1, 0), (20, .iand, 0, 0), (21, .iconst 1, 1, 0), (22, .if_icmp .ne 64, 0, 86), (25, .aload_n 0, 0, 0), (26, .getfield 34, 0, 0), (29, .iload 4, 0, 0), (31, .baload, 0, 0), (32, .ifCond .eq 19, 0, 51), (35, .aload_n 0, 0, 0), (36, .getfield 59, 0, 0), (39, .iload_n 3, 0, 0), (40, .iaload, 0, 0), (41, .iconst 1, 1, 0), (42, .iload 4, 0, 0), (44, .ishl, 0, 0), (45, .iconst (-1), (-1), 0), (46, .ixor, 0, 0), (47, .iand, 0, 0), (48, .goto 9, 0, 57), (51, .aload_n 0, 0, 0), (52, .getfield 59, 0, 0), (55, .iload_n 3, 0, 0), (56, .iaload, 0, 0), (57, .istore 5, 0, 0), (59, .aload_n 0, 0, 0), (60, .getfield 65, 0, 0), (63, .iload_n 1, 0, 0), (64, .bipush 8, 8, 0), (66, .imul, 0, 0), (67, .iload 4, 0, 0), (69, .iadd, 0, 0), (70, .aload_n 0, 0, 0), (71, .getfield 65, 0, 0), (74, .iload_n 1, 0, 0), (75, .bipush 8, 8, 0), (77, .imul, 0, 0), (78, .iload 4, 0, 0), (80, .iadd, 0, 0), (81, .iaload, 0, 0), (82, .iload 5, 0, 0), (84, .ior, 0, 0), (85, .iastore, 0, 0), (86, .iinc 4 1, 1, 0), (89, .goto (-86), 0, 3), (92, .return_, 0, 0)]
theorem X1b_step_ok : mTb cX1_step X1b_step = true := by decide +kernel
def X1b_allWays : List (Nat × Instr × Int32 × Nat) := [(0, .iconst 0, 0, 0), (1, .istore_n 1, 0, 0), (2, .iload_n 1, 0, 0), (3, .bipush 8, 8, 0), (5, .if_icmp .ge 18, 0, 23), (8, .aload_n 0, 0, 0), (9, .getfield 68, 0, 0), (12, .iload_n 1, 0, 0), (13, .iconst 1, 1, 0), (14, .iload_n 1, 0, 0), (15, .ishl, 0, 0), (16, .iastore, 0, 0), (17, .iinc 1 1, 1, 0), (20, .goto (-18), 0, 2), (23, .iconst 0, 0, 0), (24, .istore_n 1, 0, 0), (25, .iload_n 1, 0, 0), (26, .bipush 8, 8, 0), (28, .if_icmp .ge 46, 0, 74), (31, .iconst 0, 0, 0), (32, .istore_n 2, 0, 0), (33, .iload_n 2, 0, 0), (34, .bipush 8, 8, 0), (36, .if_icmp .ge 32, 0, 68), (39, .aload_n 0, 0, 0), (40, .getfield 68, 0, 0), (43, .iload_n 2, 0, 0), (44, .aload_n 0, 0, 0), (45, .getfield 68, 0, 0), (48, .iload_n 2, 0, 0), (49, .iaload, 0, 0), (50, .aload_n 0, 0, 0), (51, .aload_n 0, 0, 0), (52, .getfield 68, 0, 0), (55, .iload_n 2, 0, 0), (56, .iaload, 0, 0), (57, .invokevirtual 126, 0, 0), (60, .ior, 0, 0), (61, .iastore, 0, 0), (62, .iinc 2 1, 1, 0), (65, .goto (-32), 0, 33), (68, .iinc 1 1, 1, 0), (71, .goto (-46), 0, 25), (74, .return_, 0, 0)]
theorem X1b_allWays_ok : mTb cX1_allWays X1b_allWays = true := by decide +kernel
def X1b_beyond : List (Nat × Instr × Int32 × Nat) := [(0, .iconst 0, 0, 0), (1, .istore_n 2, 0, 0), (2, .iconst 0, 0, 0), (3, .istore_n 3, 0, 0), (4, .iload_n 3, 0, 0), (5, .bipush 32, 32, 0), (7, .if_icmp .ge 30, 0, 37), (10, .iload_n 1, 0, 0), (11, .iload_n 3, 0, 0), (12, .bipush 8, 8, 0), (14, .irem, 0, 0), (15, .ishr, 0, 0), (16, .iconst 1, 1, 0), (17, .iand, 0, 0), (18, .iconst 1, 1, 0), (19, .if_icmp .ne 12, 0, 31), (22, .iload_n 2, 0, 0), (23, .aload_n 0, 0, 0), (24, .getfield 65, 0, 0), (27, .iload_n 3, 0, 0), (28, .iaload, 0, 0), (29, .ior, 0, 0), (30, .istore_n 2, 0, 0), (31, .iinc 3 1, 1, 0), (34, .goto (-30), 0, 4), (37, .iload_n 2, 0, 0), (38, .ireturn, 0, 0)]
theorem X1b_beyond_ok : mTb cX1_beyond X1b_beyond = true := by decide +kernel
def X1b_threadsAround : List (Nat × Instr × Int32 × Nat) := [(0, .iconst 0, 0, 0), (1, .istore_n 2, 0, 0), (2, .iconst 0, 0, 0), (3, .istore_n 3, 0, 0), (4, .iload_n 3, 0, 0), (5, .bipush 32, 32, 0), (7, .if_icmp .ge 93, 0, 100), (10, .iconst 0, 0, 0), (11, .istore 4, 0, 0), (13, .iload 4, 0, 0), (15, .bipush 8, 8, 0), (17, .if_icmp .ge 77, 0, 94), (20, .aload_n 0, 0, 0), (21, .getfield 65, 0, 0), (24, .iload_n 3, 0, 0), (25, .iaload, 0, 0), (26, .iload 4, 0, 0), (28, .ishr, 0, 0), (29, .iconst 1, 1, 0), (30, .iand, 0, 0), (31, .iconst 1, 1, 0), (32, .if_icmp .ne 7, 0, 39), (35, .iconst 1, 1, 0), (36, .goto 4, 0, 40), (39, .iconst 0, 0, 0), (40, .istore 5, 0, 0), (42, .iload 5, 0, 0), (44, .ifCond .eq 44, 0, 88), (47, .aload_n 0, 0, 0), (48, .getfield 68, 0, 0), (51, .iload_n 1, 0, 0), (52, .iaload, 0, 0), (53, .iload_n 3, 0, 0), (54, .bipush 8, 8, 0), (56, .irem, 0, 0), (57, .ishr, 0, 0), (58, .iconst 1, 1, 0), (59, .iand, 0, 0), (60, .iconst 1, 1, 0), (61, .if_icmp .ne 27, 0, 88), (64, .aload_n 0, 0, 0), (65, .getfield 68, 0, 0), (68, .iload 4, 0, 0), (70, .iaload, 0, 0), (71, .iload_n 1, 0, 0), (72, .ishr, 0, 0), (73, .iconst 1, 1, 0), (74, .iand, 0, 0), (75, .iconst 1, 1, 0), (76, .if_icmp .ne 12, 0, 88), (79, .iload_n 2, 0, 0), (80, .iconst 1, 1, 0), (81, .iload_n 3, 0, 0), (82, .bipush 8, 8, 0), (84, .idiv, 0, 0), (85, .ishl, 0, 0), (86, .ior, 0, 0), (87, .istore_n 2, 0, 0), (88, .iinc 4 1, 1, 0), (91, .goto (-78), 0, 13), (94, .iinc 3 1, 1, 0), (97, .goto (-93), 0, 4), (100, .aload_n 0, 0, 0), (101, .iload_n 2, 0, 0), (102, .invokevirtual 78, 0, 0), (105, .ireturn, 0, 0)]
theorem X1b_threadsAround_ok : mTb cX1_threadsAround X1b_threadsAround = true := by decide +kernel
end
section
/-! bits and small numbers -/
set_option maxRecDepth 100000
theorem zb_1 (i : Nat) : bt 1 i = decide (i = 0) := by
  rcases Nat.lt_or_ge i 32 with h | h
  · exact (by decide +kernel : ∀ i, i < 32 → bt 1 i = decide (i = 0)) i h
  · rw [b_big h, decide_eq_false (by omega)]
/-- one bit, as the code reads it -/
theorem zb_get (x : Int32) {n : Nat} (hn : n < 31) : (x >>> (nI n &&& 31)) &&& 1 = if bt x n then 1 else 0 := by
  refine b_ext fun i hi => ?_
  rw [b_and, zb_1]
  by_cases h : i = 0
  · subst h
    rw [b_sshr n (by omega) x (by omega), if_pos (by omega), Nat.add_zero]
    cases hb : bt x n
    · simp [b_0]
    · simp [zb_1]
  · rw [decide_eq_false h, Bool.and_false]
    cases hb : bt x n
    · simp [b_0]
    · simp [zb_1, h]
theorem zb_is1 (x : Int32) {n : Nat} (hn : n < 31) : ((x >>> (nI n &&& 31)) &&& 1 = 1) ↔ bt x n = true := by
  rw [zb_get x hn]
  cases bt x n
  · exact ⟨fun h => absurd h (by decide), fun h => absurd h (by decide)⟩
  · exact ⟨fun _ => rfl, fun _ => rfl⟩
theorem zb_is0 (x : Int32) {n : Nat} (hn : n < 31) : ((x >>> (nI n &&& 31)) &&& 1 = 0) ↔ bt x n = false := by
  rw [zb_get x hn]
  cases bt x n
  · exact ⟨fun _ => rfl, fun _ => rfl⟩
  · exact ⟨fun h => absurd h (by decide), fun h => absurd h (by decide)⟩
theorem zb_one {n : Nat} (hn : n < 32) {i : Nat} (hi : i < 32) : bt ((1 : Int32) <<< (nI n &&& 31)) i = decide (i = n) := by
  rw [b_shl n hn 1 hi, zb_1]
  by_cases h : i = n
  · subst h
    simp
  · by_cases h2 : n ≤ i
    · simp [h, h2]; omega
    · simp [h, h2]
theorem zb_not (x : Int32) {i : Nat} (hi : i < 32) : bt (x ^^^ (-1)) i = !bt x i := by
  rw [b_xor, b_m1 i hi]
  cases bt x i <;> rfl
theorem zb_lt {x : Int32} {i : Nat} (h : bt x i = true) : i < 32 := by
  rcases Nat.lt_or_ge i 32 with q | q
  · exact q
  · rw [b_big q] at h
    cases h
theorem zb_eq0 {x : Int32} : x = 0 ↔ ∀ i, bt x i = false := by
  constructor
  · intro h i
    rw [h]
    exact b_0 i
  · intro h
    refine b_ext fun i _ => ?_
    rw [h i, b_0]
theorem zb_ne0 {x : Int32} : ¬ x = 0 ↔ ∃ i, i < 32 ∧ bt x i = true := by
  constructor
  · intro h
    rcases Classical.em (∃ i, i < 32 ∧ bt x i = true) with q | q
    · exact q
    · refine absurd (zb_eq0.mpr fun i => ?_) h
      cases hb : bt x i
      · rfl
      · exact absurd ⟨i, zb_lt hb, hb⟩ q
  · rintro ⟨i, -, hi⟩ h
    rw [h, b_0] at hi
    cases hi
theorem zn_lit (n : Nat) : (OfNat.ofNat n : Int32) = nI n := rfl
theorem zn_c {n : Nat} (h : n < 2 ^ 31) : (nI n).toNatClampNeg = n := nI_clamp h
/-- an index between 0 and N, off the two compares -/
theorem zn_ix {x : Int32} {N : Nat} (hN : N < 2 ^ 31) (h0 : ¬ x < 0) (h1 : ¬ nI N ≤ x) : ∃ j, j < N ∧ x = nI j := by
  rcases pk_ix x hN with h | h | h
  · exact absurd h h0
  · exact absurd h h1
  · exact h
theorem zn_ge {N j : Nat} (h : j < N) (hN : N < 2 ^ 31) : ¬ nI N ≤ nI j := nI_ge h hN
theorem zn_ge' {N j : Nat} (hN : N ≤ j) (hj : j < 2 ^ 31) : nI N ≤ nI j := nI_le hN hj
theorem zn_nn {j : Nat} (hj : j < 2 ^ 31) : ¬ nI j < 0 := nI_pos hj
def nv (x : Int32) : Nat := x.toNatClampNeg
theorem nv_nI {n : Nat} (h : n < 2 ^ 31) : nv (nI n) = n := nI_clamp h
theorem zn_inj {a b : Nat} (ha : a < 2 ^ 31) (hb : b < 2 ^ 31) (h : nI a = nI b) : a = b := (nI_eq ha hb).mp h
theorem zn_and31 {n : Nat} (h : n < 2 ^ 32) : nI n &&& 31 = nI (n % 32) := pk_andN h 5 (by decide +kernel)
theorem zn_m1 {n : Nat} (h : 0 < n) : nI n - 1 = nI (n - 1) := by
  obtain ⟨k, rfl⟩ : ∃ k, n = k + 1 := ⟨n - 1, by omega⟩
  rw [nI_pred]
  rfl
-- ===== the number of bits below 8 =====
def zcnt (x : Int32) : Nat := fb_ct (bt x) 8
theorem zcnt_le (x : Int32) : zcnt x ≤ 8 := fb_ct_le _ 8
-- ===== states =====
theorem mU_at (σ : mS) (k i : Nat) (x : Int32) (k' j : Nat) : mU σ k i x k' j = if k' = k ∧ j = i then x else σ k' j := by
  unfold mU
  by_cases h : k' = k
  · subst h
    rw [if_pos rfl]
    unfold upd
    by_cases h2 : j = i
    · rw [if_pos h2, if_pos ⟨rfl, h2⟩]
    · rw [if_neg h2, if_neg (fun q => h2 q.2)]
  · rw [if_neg h, if_neg (fun q => h q.1)]
theorem mU_o {σ : mS} {k i : Nat} {x : Int32} {k' j : Nat} (h : k' ≠ k ∨ j ≠ i) : mU σ k i x k' j = σ k' j := by
  rw [mU_at, if_neg]
  rintro ⟨h1, h2⟩
  rcases h with h | h
  · exact h h1
  · exact h h2
theorem mU_s {σ : mS} {k i : Nat} {x : Int32} : mU σ k i x k i = x := by
  rw [mU_at, if_pos ⟨rfl, rfl⟩]
end
section
/-! THE SOLVER, pure: constraints, least solution, the component's state seen as a graph -/
set_option maxRecDepth 100000
/-- allocs (variable, site), copies (to, from), loads (to, from, field), stores (to, field, from) -/
abbrev Gam : Type := (Nat → Nat → Prop) × (Nat → Nat → Prop) × List (Nat × Nat × Nat) × List (Nat × Nat × Nat)
def fnode (s f : Nat) : Nat := 12 + 2 * s + f
def Slv (Γ : Gam) (S : Nat → Nat → Prop) : Prop :=
  (∀ v s, Γ.1 v s → S v s) ∧ (∀ v w, Γ.2.1 v w → ∀ s, S w s → S v s) ∧
  (∀ q ∈ Γ.2.2.1, ∀ s, s < 8 → S q.2.1 s → ∀ t, S (fnode s q.2.2) t → S q.1 t) ∧
  (∀ q ∈ Γ.2.2.2, ∀ s, s < 8 → S q.1 s → ∀ t, S q.2.2 t → S (fnode s q.2.1) t)
def Lst (Γ : Gam) (x s : Nat) : Prop := ∀ S, Slv Γ S → S x s
/-- the numbers of a constraint set are in range -/
def GB (Γ : Gam) : Prop := (∀ v s, Γ.1 v s → v < 12 ∧ s < 8) ∧ (∀ v w, Γ.2.1 v w → v < 12 ∧ w < 12) ∧
  (∀ p ∈ Γ.2.2.1, p.1 < 12 ∧ p.2.1 < 12 ∧ p.2.2 < 2) ∧ (∀ p ∈ Γ.2.2.2, p.1 < 12 ∧ p.2.1 < 2 ∧ p.2.2 < 12)
def ld (σ : mS) (x : Nat) : Nat := nv (σ 0 x)
def sb (σ : mS) (n s : Nat) : Bool := bt (σ 1 n) s
def fb (σ : mS) (n s : Nat) : Bool := bt (σ 2 n) s
def gb (σ : mS) (n m : Nat) : Bool := bt (σ 3 n) m
def Wb (σ : mS) : Prop := (∀ x, x < 28 → σ 0 x = nI (ld σ x) ∧ ld σ x < 28) ∧ ∃ t, t < 32 ∧ σ 7 0 = nI t
def Fr (σ τ : mS) : Prop := ∀ k, 8 ≤ k → τ k = σ k
theorem Fr.rf (σ : mS) : Fr σ σ := fun _ _ => rfl
theorem Fr.tr {σ τ υ : mS} (h : Fr σ τ) (h2 : Fr τ υ) : Fr σ υ := fun k hk => (h2 k hk).trans (h k hk)
def fEnq (σ : mS) (n : Nat) : mS := if σ 4 n = 0 then mU (mU (mU σ 4 n 1) 5 (nv (σ 7 0)) (nI n)) 7 0 ((σ 7 0 + 1) &&& 31) else σ
def fAdd (σ : mS) (x : Nat) (set : Int32) : mS := if set &&& (σ 1 (ld σ x) ^^^ (-1)) = 0 then σ else
  fEnq (mU (mU σ 1 (ld σ x) (σ 1 (ld σ x) ||| (set &&& (σ 1 (ld σ x) ^^^ (-1))))) 2 (ld σ x) (σ 2 (ld σ x) ||| (set &&& (σ 1 (ld σ x) ^^^ (-1))))) (ld σ x)
def fEdge (σ : mS) (x y : Nat) : mS := if ld σ x = ld σ y ∨ gb σ (ld σ x) (ld σ y) = true then σ else
  fAdd (mU σ 3 (ld σ x) (σ 3 (ld σ x) ||| ((1 : Int32) <<< (nI (ld σ y) &&& 31)))) (ld σ y) (σ 1 (ld σ x))
def fEF (σ : mS) (set : Int32) (f y : Nat) : Nat → mS
  | 0 => σ
  | n + 1 => if bt set n = true then fEdge (fEF σ set f y n) (fnode n f) y else fEF σ set f y n
def fET (σ : mS) (set : Int32) (f y : Nat) : Nat → mS
  | 0 => σ
  | n + 1 => if bt set n = true then fEdge (fET σ set f y n) y (fnode n f) else fET σ set f y n
def fJoin (σ : mS) (x k : Nat) : mS :=
  fEnq (mU (mU (mU (fun j => if j = 0 then (fun i => if i < 28 ∧ σ 0 i = nI k then nI x else σ 0 i) else σ j) 1 x (σ 1 x ||| σ 1 k)) 3 x (σ 3 x ||| σ 3 k)) 2 x (σ 1 x ||| σ 1 k)) x
-- ===== the queue =====
def QR (σ : mS) (q : List Nat) : Prop := q.Nodup ∧ (∀ n ∈ q, n < 28) ∧ (∀ n, n < 28 → σ 4 n = if n ∈ q then 1 else 0) ∧
  ∃ h, h < 32 ∧ σ 6 0 = nI h ∧ σ 7 0 = nI ((h + q.length) % 32) ∧ ∀ i m, q[i]? = some m → σ 5 ((h + i) % 32) = nI m
def qadd (q : List Nat) (n : Nat) : List Nat := if n ∈ q then q else q ++ [n]
theorem qadd_mem {q : List Nat} {n m : Nat} : m ∈ qadd q n ↔ m ∈ q ∨ m = n := by
  unfold qadd
  split
  · rename_i h
    exact ⟨Or.inl, fun h2 => h2.elim id (fun e => e ▸ h)⟩
  · simp
theorem qadd_len (q : List Nat) (n : Nat) : (qadd q n).length ≤ q.length + 1 := by
  unfold qadd
  split
  · omega
  · simp
theorem QR.len {σ : mS} {q : List Nat} (h : QR σ q) : q.length ≤ 28 := by
  have h1 : q ⊆ List.range 28 := fun n hn => List.mem_range.mpr (h.2.1 n hn)
  have h2 := List.Nodup.length_le_of_subset h.1 h1
  rwa [List.length_range] at h2
theorem fEnq_k {σ : mS} {n k : Nat} (h4 : k ≠ 4) (h5 : k ≠ 5) (h7 : k ≠ 7) : fEnq σ n k = σ k := by
  unfold fEnq
  split
  · rw [mU_ne h7, mU_ne h5, mU_ne h4]
  · rfl
theorem QR.enq {σ : mS} {q : List Nat} (h : QR σ q) {n : Nat} (hn : n < 28) : QR (fEnq σ n) (qadd q n) := by
  have hlen := h.len
  obtain ⟨h1, h2, h3, hd, hd1, hd2, hd3, hd4⟩ := h
  unfold fEnq qadd
  have h3n := h3 n hn
  by_cases hq : n ∈ q
  · rw [if_pos hq] at h3n
    rw [if_neg (by rw [h3n]; decide), if_pos hq]
    exact ⟨h1, h2, h3, hd, hd1, hd2, hd3, hd4⟩
  · rw [if_neg hq] at h3n
    rw [if_pos h3n, if_neg hq]
    have ht : nv (σ 7 0) = (hd + q.length) % 32 := by
      rw [hd3, nv_nI]
      have := Nat.mod_lt (hd + q.length) (show 32 > 0 by decide)
      omega
    have htl := Nat.mod_lt (hd + q.length) (show 32 > 0 by decide)
    refine ⟨?_, ?_, ?_, hd, hd1, ?_, ?_, ?_⟩
    · rw [List.nodup_append]
      refine ⟨h1, by simp, fun a ha b hb e => ?_⟩
      rw [List.mem_singleton] at hb
      subst hb
      exact hq (e ▸ ha)
    · intro m hm
      rcases List.mem_append.mp hm with hm | hm
      · exact h2 m hm
      · rw [List.mem_singleton] at hm
        omega
    · intro m hm
      rw [mU_o (Or.inl (by decide)), mU_o (Or.inl (by decide))]
      by_cases e : m = n
      · subst e
        rw [mU_s, if_pos (by simp)]
      · rw [mU_o (Or.inr e), h3 m hm]
        by_cases hm2 : m ∈ q
        · rw [if_pos hm2, if_pos (by simp [hm2])]
        · rw [if_neg hm2, if_neg (by simp [hm2, e])]
    · rw [mU_o (Or.inl (by decide)), mU_o (Or.inl (by decide)), mU_o (Or.inl (by decide)), hd2]
    · rw [mU_s, hd3, nI_1, zn_and31 (by omega), List.length_append, List.length_singleton]
      congr 1
      omega
    · intro i m hi
      rw [mU_o (Or.inl (by decide)), ht]
      rcases Nat.lt_or_ge i q.length with hl | hl
      · rw [List.getElem?_append_left hl] at hi
        rw [mU_o (Or.inr (by omega)), mU_o (Or.inl (by decide))]
        exact hd4 i m hi
      · rw [List.getElem?_append_right hl] at hi
        have hz : i - q.length < 1 := (List.getElem?_eq_some_iff.mp hi).1
        have hi2 : i = q.length := by omega
        subst hi2
        rw [Nat.sub_self] at hi
        cases hi
        rw [mU_s]
/-- the first of the queue is taken out, as solve() does it -/
def fDeq (σ : mS) (n : Nat) : mS := mU (mU σ 6 0 ((σ 6 0 + 1) &&& 31)) 4 n 0
theorem QR.deq {σ : mS} {n : Nat} {q : List Nat} (h : QR σ (n :: q)) : n < 28 ∧ (∃ t, t < 32 ∧ σ 6 0 = nI t ∧ σ 5 t = nI n) ∧ QR (fDeq σ n) q := by
  have hlen := h.len
  obtain ⟨h1, h2, h3, hd, hd1, hd2, hd3, hd4⟩ := h
  have hn := h2 n List.mem_cons_self
  rw [List.length_cons] at hlen hd3
  have h5 := hd4 0 n rfl
  rw [Nat.add_zero, Nat.mod_eq_of_lt hd1] at h5
  have h1' := List.nodup_cons.mp h1
  refine ⟨hn, ⟨hd, hd1, hd2, h5⟩, h1'.2, fun m hm => h2 m (List.mem_cons_of_mem _ hm), ?_, (hd + 1) % 32, Nat.mod_lt _ (by decide), ?_, ?_, ?_⟩
  · intro m hm
    unfold fDeq
    by_cases e : m = n
    · subst e
      rw [mU_s, if_neg h1'.1]
    · rw [mU_o (Or.inr e), mU_o (Or.inl (by decide)), h3 m hm]
      by_cases hm2 : m ∈ q
      · rw [if_pos hm2, if_pos (List.mem_cons_of_mem _ hm2)]
      · rw [if_neg hm2, if_neg]
        intro hm3
        rcases List.mem_cons.mp hm3 with e2 | e2
        · exact e e2
        · exact hm2 e2
  · unfold fDeq
    rw [mU_o (Or.inl (by decide)), mU_s, hd2, nI_1, zn_and31 (by omega)]
  · unfold fDeq
    rw [mU_o (Or.inl (by decide)), mU_o (Or.inl (by decide)), hd3]
    congr 1
    omega
  · intro i m hi
    unfold fDeq
    rw [mU_o (Or.inl (by decide)), mU_o (Or.inl (by decide))]
    have := hd4 (i + 1) m hi
    rw [← this]
    congr 1
    omega
theorem QR.nil {σ : mS} (h : QR σ []) : σ 6 0 = σ 7 0 := by
  obtain ⟨h1, h2, h3, hd, hd1, hd2, hd3, hd4⟩ := h
  rw [hd2, hd3, List.length_nil, Nat.add_zero, Nat.mod_eq_of_lt hd1]
theorem QR.cons {σ : mS} {n : Nat} {q : List Nat} (h : QR σ (n :: q)) : ¬ σ 6 0 = σ 7 0 := by
  have hlen := h.len
  obtain ⟨h1, h2, h3, hd, hd1, hd2, hd3, hd4⟩ := h
  rw [List.length_cons] at hlen hd3
  rw [hd2, hd3, nI_eq (by omega) (by omega)]
  omega
-- ===== the state as a graph =====
def WF (σ : mS) (q : List Nat) : Prop := (∀ x, x < 28 → σ 0 x = nI (ld σ x) ∧ ld σ x < 28 ∧ ld σ (ld σ x) = ld σ x) ∧ (∀ n, n < 28 → ∀ s, sb σ n s = true → s < 8) ∧ (∀ n, n < 28 → ∀ m, gb σ n m = true → m < 28) ∧
  (∀ n, n < 28 → ∀ s, fb σ n s = true → sb σ n s = true) ∧ QR σ q ∧ ∀ n, n < 28 → ld σ n = n → ∀ s, fb σ n s = true → n ∈ q
theorem WF.wb {σ : mS} {q : List Nat} (h : WF σ q) : Wb σ := by
  obtain ⟨h1, -, -, -, ⟨-, -, -, hd, hd1, hd2, hd3, -⟩, -⟩ := h
  exact ⟨fun x hx => ⟨(h1 x hx).1, (h1 x hx).2.1⟩, _, Nat.mod_lt _ (by decide), hd3⟩
def Edge (σ : mS) (a b : Nat) : Prop := a = b ∨ ∃ m, m < 28 ∧ gb σ a m = true ∧ ld σ m = b
def Sound (Γ : Gam) (σ : mS) : Prop := ∀ S, Slv Γ S → (∀ x, x < 28 → ∀ s, S x s ↔ S (ld σ x) s) ∧ (∀ n, n < 28 → ∀ s, sb σ n s = true → S n s) ∧ ∀ n, n < 28 → ∀ m, gb σ n m = true → ∀ s, S n s → S m s
def Cov (Γ : Gam) (σ : mS) : Prop := (∀ v s, Γ.1 v s → sb σ (ld σ v) s = true) ∧ ∀ v w, Γ.2.1 v w → Edge σ (ld σ w) (ld σ v)
/-- what is passed on; node n is at work: of its sites in X the loads from iL on, the stores from iS on, the targets from iE on are still owed -/
def Clo (Γ : Gam) (σ : mS) (n : Nat) (X : Nat → Prop) (iL iS iE : Nat) : Prop :=
  (∀ a, a < 28 → ld σ a = a → ∀ m, m < 28 → gb σ a m = true → ∀ s, sb σ a s = true → fb σ a s = false → (a = n → X s → m < iE) → sb σ (ld σ m) s = true) ∧
  (∀ (i : Nat) (p : Nat × Nat × Nat), Γ.2.2.1[i]? = some p → ∀ s, sb σ (ld σ p.2.1) s = true → fb σ (ld σ p.2.1) s = false → (ld σ p.2.1 = n → X s → i < iL) → Edge σ (ld σ (fnode s p.2.2)) (ld σ p.1)) ∧
  (∀ (i : Nat) (p : Nat × Nat × Nat), Γ.2.2.2[i]? = some p → ∀ s, sb σ (ld σ p.1) s = true → fb σ (ld σ p.1) s = false → (ld σ p.1 = n → X s → i < iS) → Edge σ (ld σ p.2.2) (ld σ (fnode s p.2.1)))
/-- Γs: the constraints whose solutions bound the sites from above; Γ: those that are covered -/
def Inv2 (Γs Γ : Gam) (σ : mS) (q : List Nat) (n : Nat) (X : Nat → Prop) (iL iS iE : Nat) : Prop := WF σ q ∧ Sound Γs σ ∧ Cov Γ σ ∧ Clo Γ σ n X iL iS iE
abbrev Inv (Γ : Gam) (σ : mS) (q : List Nat) (n : Nat) (X : Nat → Prop) (iL iS iE : Nat) : Prop := Inv2 Γ Γ σ q n X iL iS iE
def pot (σ : mS) (q : List Nat) : Nat := q.length + fb_sm (fun n => 8 - zcnt (σ 1 n)) 28 + fb_ct (fun n => decide (ld σ n = n)) 28
theorem pot_le {σ : mS} {q : List Nat} (h : QR σ q) : pot σ q ≤ 280 := by
  have h1 := h.len
  have h2 : fb_sm (fun n => 8 - zcnt (σ 1 n)) 28 ≤ 28 * 8 := fb_sm_bound (fun k _ => by omega)
  have h3 := fb_ct_le (fun n => decide (ld σ n = n)) 28
  unfold pot
  omega
-- ===== adding sites =====
/-- sites 'set' put into node n -/
def AddR (σ τ : mS) (n : Nat) (set : Int32) : Prop := τ 0 = σ 0 ∧ τ 3 = σ 3 ∧ (∀ m s, sb τ m s = (sb σ m s || (decide (m = n) && bt set s))) ∧ (∀ m s, fb τ m s = (fb σ m s || (decide (m = n) && (bt set s && !sb σ n s)))) ∧ Fr σ τ
theorem fAdd_R (σ : mS) (x : Nat) (set : Int32) : AddR σ (fAdd σ x set) (ld σ x) set := by
  generalize hn : ld σ x = n
  unfold fAdd
  rw [hn]
  have hmore : ∀ s, bt (set &&& (σ 1 n ^^^ (-1))) s = (bt set s && !sb σ n s) := by
    intro s
    rcases Nat.lt_or_ge s 32 with h | h
    · rw [b_and, zb_not _ h]
      rfl
    · rw [b_big h, b_big h]
      rfl
  split
  · rename_i h0
    have hz : ∀ s, (bt set s && !sb σ n s) = false := fun s => by rw [← hmore s, h0]; exact b_0 s
    refine ⟨rfl, rfl, fun m s => ?_, fun m s => ?_, Fr.rf σ⟩
    · by_cases e : m = n
      · subst e
        have := hz s
        cases h1 : bt set s <;> cases h2 : sb σ m s <;> simp_all
      · simp [e]
    · rw [hz s]
      simp
  · refine ⟨?_, ?_, fun m s => ?_, fun m s => ?_, fun k hk => ?_⟩
    · rw [fEnq_k (by decide) (by decide) (by decide), mU_ne (by decide), mU_ne (by decide)]
    · rw [fEnq_k (by decide) (by decide) (by decide), mU_ne (by decide), mU_ne (by decide)]
    · show bt (fEnq _ n 1 m) s = _
      rw [fEnq_k (by decide) (by decide) (by decide), mU_ne (by decide)]
      by_cases e : m = n
      · subst e
        rw [mU_s, b_or, hmore]
        show (sb σ m s || _) = _
        cases h1 : bt set s <;> cases h2 : sb σ m s <;> simp
      · rw [mU_o (Or.inr e)]
        simp [e, sb]
    · show bt (fEnq _ n 2 m) s = _
      rw [fEnq_k (by decide) (by decide) (by decide)]
      by_cases e : m = n
      · subst e
        rw [mU_s, b_or, hmore]
        simp [fb]
      · rw [mU_o (Or.inr e), mU_o (Or.inl (by decide))]
        simp [e, fb]
    · rw [fEnq_k (by omega) (by omega) (by omega), mU_ne (by omega), mU_ne (by omega)]
theorem fAdd_ld (σ : mS) (x : Nat) (set : Int32) (y : Nat) : ld (fAdd σ x set) y = ld σ y := by
  unfold ld
  rw [(fAdd_R σ x set).1]
theorem zcnt_lt {x y : Int32} (hs : ∀ s, bt x s = true → bt y s = true) {s : Nat} (h8 : s < 8) (h1 : bt x s = false) (h2 : bt y s = true) : zcnt x + 1 ≤ zcnt y := by
  unfold zcnt
  have e : fb_ct (fun k => if k = s then true else bt x k) 8 + (if bt x s then 1 else 0) = fb_ct (bt x) 8 + (if true then 1 else 0) := fb_ct_upd (bt x) true h8
  rw [h1] at e
  have h3 : fb_ct (fun k => if k = s then true else bt x k) 8 ≤ fb_ct (bt y) 8 := by
    refine fb_ct_sub fun k _ hk => ?_
    by_cases e2 : k = s
    · rw [e2]; exact h2
    · rw [if_neg e2] at hk
      exact hs k hk
  simp only [Bool.false_eq_true, if_false, if_true] at e
  omega
theorem zcnt_mono {x y : Int32} (hs : ∀ s, bt x s = true → bt y s = true) : zcnt x ≤ zcnt y := fb_ct_sub fun k _ hk => hs k hk
/-- the queue and the measure behind an adding of sites -/
theorem fAdd_Q {σ : mS} {q : List Nat} {x : Nat} {set : Int32} (hq : QR σ q) (hn : ld σ x < 28) (h8 : ∀ s, bt set s = true → s < 8) :
    ∃ q', QR (fAdd σ x set) q' ∧ (∀ m, m ∈ q → m ∈ q') ∧ pot (fAdd σ x set) q' ≤ pot σ q ∧ (∀ s, bt set s = true → sb σ (ld σ x) s = false → ld σ x ∈ q') := by
  generalize hx : ld σ x = n at hn
  have hR := fAdd_R σ x set
  rw [hx] at hR
  have hmore : ∀ s, bt (set &&& (σ 1 n ^^^ (-1))) s = (bt set s && !sb σ n s) := by
    intro s
    rcases Nat.lt_or_ge s 32 with h | h
    · rw [b_and, zb_not _ h]
      rfl
    · rw [b_big h, b_big h]
      rfl
  by_cases h0 : set &&& (σ 1 n ^^^ (-1)) = 0
  · have he : fAdd σ x set = σ := by
      unfold fAdd
      rw [hx, if_pos h0]
    rw [he]
    refine ⟨q, hq, fun _ h => h, Nat.le_refl _, fun s h1 h2 => ?_⟩
    have := hmore s
    rw [h0, b_0, h1, h2] at this
    cases this
  · have he : fAdd σ x set = fEnq (mU (mU σ 1 n (σ 1 n ||| (set &&& (σ 1 n ^^^ (-1))))) 2 n (σ 2 n ||| (set &&& (σ 1 n ^^^ (-1))))) n := by
      unfold fAdd
      rw [hx, if_neg h0]
    refine ⟨qadd q n, ?_, fun m hm => qadd_mem.mpr (Or.inl hm), ?_, fun _ _ _ => qadd_mem.mpr (Or.inr rfl)⟩
    · rw [he]
      refine QR.enq ?_ hn
      obtain ⟨h1, h2, h3, hd, hd1, hd2, hd3, hd4⟩ := hq
      refine ⟨h1, h2, fun m hm => ?_, hd, hd1, ?_, ?_, fun i m hi => ?_⟩
      · rw [mU_ne (by decide), mU_ne (by decide)]; exact h3 m hm
      · rw [mU_ne (by decide), mU_ne (by decide)]; exact hd2
      · rw [mU_ne (by decide), mU_ne (by decide)]; exact hd3
      · rw [mU_ne (by decide), mU_ne (by decide)]; exact hd4 i m hi
    · obtain ⟨s, hs32, hs⟩ := zb_ne0.mp h0
      rw [hmore s, Bool.and_eq_true] at hs
      have hs2 : sb σ n s = false := by
        have := hs.2
        cases hb : sb σ n s
        · rfl
        · rw [hb] at this; cases this
      have hup : fb_sm (fun m => 8 - zcnt (fAdd σ x set 1 m)) 28 + 1 ≤ fb_sm (fun m => 8 - zcnt (σ 1 m)) 28 := by
        have hmono : ∀ m s, bt (σ 1 m) s = true → bt (fAdd σ x set 1 m) s = true := fun m s h => by
          have := hR.2.2.1 m s
          unfold sb at this
          rw [this, h]
          rfl
        have hone : zcnt (σ 1 n) + 1 ≤ zcnt (fAdd σ x set 1 n) := by
          refine zcnt_lt (hmono n) (h8 s hs.1) hs2 ?_
          have := hR.2.2.1 n s
          unfold sb at this
          rw [this, hs.1]
          simp
        have e := fb_sm_upd (fun m => 8 - zcnt (σ 1 m)) (8 - zcnt (fAdd σ x set 1 n)) hn
        have hle : fb_sm (fun m => 8 - zcnt (fAdd σ x set 1 m)) 28 ≤ fb_sm (fun k => if k = n then 8 - zcnt (fAdd σ x set 1 n) else 8 - zcnt (σ 1 k)) 28 := by
          refine fb_sm_le fun k _ => ?_
          by_cases e2 : k = n
          · rw [if_pos e2, e2]; exact Nat.le_refl _
          · rw [if_neg e2]
            have := zcnt_mono (hmono k)
            show 8 - zcnt (fAdd σ x set 1 k) ≤ 8 - zcnt (σ 1 k)
            omega
        have h8' := zcnt_le (fAdd σ x set 1 n)
        omega
      have hct : fb_ct (fun m => decide (ld (fAdd σ x set) m = m)) 28 = fb_ct (fun m => decide (ld σ m = m)) 28 := fb_ct_cong fun k _ => by rw [fAdd_ld]
      have hl := qadd_len q n
      unfold pot
      rw [hct]
      omega
end
section
/-! the solver's steps keep its invariant -/
set_option maxRecDepth 100000
theorem ld_of0 {σ τ : mS} (h : τ 0 = σ 0) (x : Nat) : ld τ x = ld σ x := by
  unfold ld
  rw [h]
/-- more edges and sites, the same leaders -/
def Gr (σ τ : mS) : Prop := τ 0 = σ 0 ∧ (∀ m s, sb σ m s = true → sb τ m s = true) ∧ (∀ m k, gb σ m k = true → gb τ m k = true) ∧ Fr σ τ
theorem Gr.rf (σ : mS) : Gr σ σ := ⟨rfl, fun _ _ h => h, fun _ _ h => h, Fr.rf σ⟩
theorem Gr.tr {σ τ υ : mS} (h : Gr σ τ) (h2 : Gr τ υ) : Gr σ υ := ⟨h2.1.trans h.1, fun m s q => h2.2.1 m s (h.2.1 m s q), fun m s q => h2.2.2.1 m s (h.2.2.1 m s q), h.2.2.2.tr h2.2.2.2⟩
theorem Gr.edge {σ τ : mS} (h : Gr σ τ) {a b : Nat} (he : Edge σ a b) : Edge τ a b := by
  rcases he with he | ⟨m, h1, h2, h3⟩
  · exact Or.inl he
  · exact Or.inr ⟨m, h1, h.2.2.1 a m h2, by rw [ld_of0 h.1]; exact h3⟩
theorem Inv2.grow {Γs Γ : Gam} {σ τ : mS} {q q' : List Nat} {n : Nat} {X : Nat → Prop} {iL iS iE : Nat} (hI : Inv2 Γs Γ σ q n X iL iS iE) (hG : Gr σ τ)
    (hold : ∀ m s, sb τ m s = true → fb τ m s = false → sb σ m s = true ∧ fb σ m s = false)
    (hnew : ∀ a m, gb τ a m = true → gb σ a m = false → ∀ s, sb σ a s = true → sb τ (ld σ m) s = true) (hW : WF τ q') (hS : Sound Γs τ) : Inv2 Γs Γ τ q' n X iL iS iE := by
  obtain ⟨-, -, hC, hK⟩ := hI
  have hl := fun x => ld_of0 hG.1 x
  refine ⟨hW, hS, ⟨fun v s h => ?_, fun v w h => ?_⟩, fun a ha hla m hm hg s h1 h2 hx => ?_, fun i p hp s h1 h2 hx => ?_, fun i p hp s h1 h2 hx => ?_⟩
  · rw [hl]
    exact hG.2.1 _ _ (hC.1 v s h)
  · rw [hl, hl]
    exact hG.edge (hC.2 v w h)
  · rw [hl] at hla ⊢
    obtain ⟨h3, h4⟩ := hold a s h1 h2
    cases hb : gb σ a m
    · exact hnew a m hg hb s h3
    · exact hG.2.1 _ _ (hK.1 a ha hla m hm hb s h3 h4 hx)
  · rw [hl] at h1 h2 hx
    rw [hl, hl]
    obtain ⟨h3, h4⟩ := hold _ s h1 h2
    exact hG.edge (hK.2.1 i p hp s h3 h4 hx)
  · rw [hl] at h1 h2 hx
    rw [hl, hl]
    obtain ⟨h3, h4⟩ := hold _ s h1 h2
    exact hG.edge (hK.2.2 i p hp s h3 h4 hx)
theorem AddR.old {σ τ : mS} {n : Nat} {set : Int32} (hR : AddR σ τ n set) (m s : Nat) (h1 : sb τ m s = true) (h2 : fb τ m s = false) : sb σ m s = true ∧ fb σ m s = false := by
  rw [hR.2.2.1 m s] at h1
  rw [hR.2.2.2.1 m s] at h2
  by_cases e : m = n
  · subst e
    cases h3 : sb σ m s <;> cases h4 : fb σ m s <;> cases h5 : bt set s <;> simp_all
  · simp [e] at h1 h2
    exact ⟨h1, h2⟩
theorem AddR.gr {σ τ : mS} {n : Nat} {set : Int32} (hR : AddR σ τ n set) : Gr σ τ := by
  refine ⟨hR.1, fun m s h => by rw [hR.2.2.1 m s, h]; rfl, fun m k h => ?_, hR.2.2.2.2⟩
  unfold gb at h ⊢
  rw [hR.2.1]
  exact h
theorem Inv2.add {Γs Γ : Gam} {σ : mS} {q : List Nat} {n : Nat} {X : Nat → Prop} {iL iS iE : Nat} (hI : Inv2 Γs Γ σ q n X iL iS iE) {x : Nat} (hx : x < 28) {set : Int32} (h8 : ∀ s, bt set s = true → s < 8) (hset : ∀ S, Slv Γs S → ∀ s, bt set s = true → S x s) :
    ∃ q', Inv2 Γs Γ (fAdd σ x set) q' n X iL iS iE ∧ (∀ m, m ∈ q → m ∈ q') ∧ pot (fAdd σ x set) q' ≤ pot σ q ∧ Gr σ (fAdd σ x set) ∧ ∀ s, bt set s = true → sb (fAdd σ x set) (ld σ x) s = true := by
  have hR := fAdd_R σ x set
  obtain ⟨⟨w1, w2, w3, w4, w5, w6⟩, hS, hrest⟩ := hI
  have hlx := (w1 x hx).2.1
  obtain ⟨q', hq1, hq2, hq3, hq4⟩ := fAdd_Q (x := x) (set := set) w5 hlx h8
  have hl := fun y => ld_of0 hR.1 y
  have hgb : ∀ m k, gb (fAdd σ x set) m k = gb σ m k := fun m k => by unfold gb; rw [hR.2.1]
  refine ⟨q', ?_, hq2, hq3, hR.gr, fun s h => by rw [hR.2.2.1, h]; simp⟩
  refine Inv2.grow ⟨⟨w1, w2, w3, w4, w5, w6⟩, hS, hrest⟩ hR.gr hR.old (fun a m h1 h2 => by rw [hgb, h2] at h1; cases h1) ⟨fun y hy => ?_, fun m hm s h => ?_, fun m hm k h => ?_, fun m hm s h => ?_, hq1, fun m hm hlm s h => ?_⟩ ?_
  · rw [hl, hl, hR.1]
    exact w1 y hy
  · rw [hR.2.2.1, Bool.or_eq_true] at h
    rcases h with h | h
    · exact w2 m hm s h
    · rw [Bool.and_eq_true] at h
      exact h8 s h.2
  · rw [hgb] at h
    exact w3 m hm k h
  · rw [hR.2.2.2.1, Bool.or_eq_true] at h
    rw [hR.2.2.1]
    rcases h with h | h
    · rw [w4 m hm s h]
      rfl
    · rw [Bool.and_eq_true, Bool.and_eq_true] at h
      rw [h.1, h.2.1]
      simp
  · rw [hl] at hlm
    rw [hR.2.2.2.1, Bool.or_eq_true] at h
    rcases h with h | h
    · exact hq2 m (w6 m hm hlm s h)
    · rw [Bool.and_eq_true, Bool.and_eq_true] at h
      have e : m = ld σ x := of_decide_eq_true h.1
      rw [e]
      refine hq4 s h.2.1 ?_
      have := h.2.2
      cases hb : sb σ (ld σ x) s
      · rfl
      · rw [hb] at this; cases this
  · intro S hSl
    obtain ⟨s1, s2, s3⟩ := hS S hSl
    refine ⟨fun y hy s => by rw [hl]; exact s1 y hy s, fun m hm s h => ?_, fun m hm k h => by rw [hgb] at h; exact s3 m hm k h⟩
    rw [hR.2.2.1, Bool.or_eq_true] at h
    rcases h with h | h
    · exact s2 m hm s h
    · rw [Bool.and_eq_true] at h
      have e : m = ld σ x := of_decide_eq_true h.1
      rw [e]
      exact (s1 x hx s).mp (hset S hSl s h.2)
/-- an edge put in -/
theorem Inv2.edge {Γs Γ : Gam} {σ : mS} {q : List Nat} {n : Nat} {X : Nat → Prop} {iL iS iE : Nat} (hI : Inv2 Γs Γ σ q n X iL iS iE) {x y : Nat} (hx : x < 28) (hy : y < 28) (hS0 : ∀ S, Slv Γs S → ∀ s, S x s → S y s) :
    ∃ q', Inv2 Γs Γ (fEdge σ x y) q' n X iL iS iE ∧ (∀ m, m ∈ q → m ∈ q') ∧ pot (fEdge σ x y) q' ≤ pot σ q ∧ Gr σ (fEdge σ x y) ∧ (∀ m s, sb (fEdge σ x y) m s = true → fb (fEdge σ x y) m s = false → sb σ m s = true ∧ fb σ m s = false) ∧ Edge (fEdge σ x y) (ld σ x) (ld σ y) := by
  obtain ⟨⟨w1, w2, w3, w4, w5, w6⟩, hS, hrest⟩ := hI
  have hI : Inv2 Γs Γ σ q n X iL iS iE := ⟨⟨w1, w2, w3, w4, w5, w6⟩, hS, hrest⟩
  obtain ⟨-, hlx, hllx⟩ := w1 x hx
  obtain ⟨-, hly, hlly⟩ := w1 y hy
  unfold fEdge
  generalize ha : ld σ x = a at hlx hllx
  generalize hb : ld σ y = b at hly hlly
  by_cases hc : a = b ∨ gb σ a b = true
  · rw [if_pos hc]
    refine ⟨q, hI, fun _ h => h, Nat.le_refl _, Gr.rf σ, fun _ _ h1 h2 => ⟨h1, h2⟩, ?_⟩
    rcases hc with hc | hc
    · exact Or.inl hc
    · exact Or.inr ⟨b, hly, hc, hlly⟩
  · rw [if_neg hc]
    have hgf : gb σ a b = false := by
      cases h : gb σ a b
      · rfl
      · exact absurd (Or.inr h) hc
    generalize hσ1 : mU σ 3 a (σ 3 a ||| ((1 : Int32) <<< (nI b &&& 31))) = σ1
    have e0 : ∀ k, k ≠ 3 → σ1 k = σ k := fun k hk => by rw [← hσ1, mU_ne hk]
    have hld1 : ∀ z, ld σ1 z = ld σ z := fun z => ld_of0 (e0 0 (by decide)) z
    have hsb1 : ∀ m s, sb σ1 m s = sb σ m s := fun m s => by unfold sb; rw [e0 1 (by decide)]
    have hfb1 : ∀ m s, fb σ1 m s = fb σ m s := fun m s => by unfold fb; rw [e0 2 (by decide)]
    have hgb1 : ∀ m k, gb σ1 m k = (gb σ m k || (decide (m = a) && decide (k = b))) := by
      intro m k
      unfold gb
      rw [← hσ1]
      by_cases e : m = a
      · subst e
        rw [mU_s, b_or]
        rcases Nat.lt_or_ge k 32 with hk | hk
        · rw [zb_one (by omega) hk]
          simp
        · rw [b_big hk, b_big hk, decide_eq_false (show ¬ k = b by omega)]
          simp
      · rw [mU_o (Or.inr e)]
        simp [e]
    have hQ1 : QR σ1 q := by
      obtain ⟨h1, h2, h3, hd, hd1, hd2, hd3, hd4⟩ := w5
      exact ⟨h1, h2, fun m hm => by rw [e0 4 (by decide)]; exact h3 m hm, hd, hd1, by rw [e0 6 (by decide)]; exact hd2, by rw [e0 7 (by decide)]; exact hd3, fun i m hi => by rw [e0 5 (by decide)]; exact hd4 i m hi⟩
    have hb1 : ld σ1 b = b := by rw [hld1]; exact hlly
    have h8 : ∀ s, bt (σ 1 a) s = true → s < 8 := fun s h => w2 a hlx s h
    obtain ⟨q', hq1, hq2, hq3, hq4⟩ := fAdd_Q (σ := σ1) (q := q) (x := b) (set := σ 1 a) hQ1 (by rw [hb1]; exact hly) h8
    have hR := fAdd_R σ1 b (σ 1 a)
    rw [hb1] at hR hq4
    generalize hτ : fAdd σ1 b (σ 1 a) = τ at hq1 hq3 hR
    have hpot1 : pot σ1 q = pot σ q := by
      unfold pot
      rw [e0 1 (by decide)]
      have : (fun n => decide (ld σ1 n = n)) = fun n => decide (ld σ n = n) := funext fun z => by rw [hld1]
      rw [this]
    have hsbτ : ∀ m s, sb τ m s = (sb σ m s || (decide (m = b) && sb σ a s)) := fun m s => by rw [hR.2.2.1, hsb1]; rfl
    have hfbτ : ∀ m s, fb τ m s = (fb σ m s || (decide (m = b) && (sb σ a s && !sb σ b s))) := fun m s => by rw [hR.2.2.2.1, hfb1, hsb1]; rfl
    have hgbτ : ∀ m k, gb τ m k = (gb σ m k || (decide (m = a) && decide (k = b))) := fun m k => by
      rw [← hgb1]
      unfold gb
      rw [hR.2.1]
    have hldτ : ∀ z, ld τ z = ld σ z := fun z => (ld_of0 hR.1 z).trans (hld1 z)
    have hG : Gr σ τ := ⟨hR.1.trans (e0 0 (by decide)), fun m s h => by rw [hsbτ, h]; rfl, fun m k h => by rw [hgbτ, h]; rfl, fun k hk => (hR.2.2.2.2 k hk).trans (e0 k (by omega))⟩
    have hSx : ∀ S, Slv Γs S → ∀ s, S a s → S b s := fun S hSl s h => by
      have h1 := (hS S hSl).1 x hx s
      have h2 := (hS S hSl).1 y hy s
      rw [ha] at h1
      rw [hb] at h2
      exact h2.mp (hS0 S hSl s (h1.mpr h))
    have hold : ∀ m s, sb τ m s = true → fb τ m s = false → sb σ m s = true ∧ fb σ m s = false := by
      intro m s h1 h2
      rw [hsbτ] at h1
      rw [hfbτ] at h2
      by_cases e : m = b
      · subst e
        cases h3 : sb σ m s <;> cases h4 : fb σ m s <;> cases h5 : sb σ a s <;> simp_all
      · simp [e] at h1 h2
        exact ⟨h1, h2⟩
    refine ⟨q', ?_, hq2, by omega, hG, hold, Or.inr ⟨b, hly, by rw [hgbτ]; simp, by rw [hldτ]; exact hlly⟩⟩
    refine hI.grow hG hold (fun a' m h1 h2 s h3 => ?_) ⟨fun z hz => ?_, fun m hm s h => ?_, fun m hm k h => ?_, fun m hm s h => ?_, hq1, fun m hm hlm s h => ?_⟩ ?_
    · rw [hgbτ, h2, Bool.false_or, Bool.and_eq_true] at h1
      have e1 : a' = a := of_decide_eq_true h1.1
      have e2 : m = b := of_decide_eq_true h1.2
      subst e1 e2
      rw [hlly, hsbτ, h3]
      simp
    · rw [hldτ, hldτ, hG.1]
      exact w1 z hz
    · rw [hsbτ, Bool.or_eq_true] at h
      rcases h with h | h
      · exact w2 m hm s h
      · rw [Bool.and_eq_true] at h
        exact w2 a hlx s h.2
    · rw [hgbτ, Bool.or_eq_true] at h
      rcases h with h | h
      · exact w3 m hm k h
      · rw [Bool.and_eq_true] at h
        have e2 : k = b := of_decide_eq_true h.2
        omega
    · rw [hfbτ, Bool.or_eq_true] at h
      rw [hsbτ]
      rcases h with h | h
      · rw [w4 m hm s h]
        rfl
      · rw [Bool.and_eq_true, Bool.and_eq_true] at h
        rw [h.1, h.2.1]
        simp
    · rw [hldτ] at hlm
      rw [hfbτ, Bool.or_eq_true] at h
      rcases h with h | h
      · exact hq2 m (w6 m hm hlm s h)
      · rw [Bool.and_eq_true, Bool.and_eq_true] at h
        have e : m = b := of_decide_eq_true h.1
        rw [e]
        refine hq4 s h.2.1 ?_
        rw [hsb1]
        have := h.2.2
        cases hb : sb σ b s
        · rfl
        · rw [hb] at this; cases this
    · intro S hSl
      obtain ⟨s1, s2, s3⟩ := hS S hSl
      refine ⟨fun z hz s => by rw [hldτ]; exact s1 z hz s, fun m hm s h => ?_, fun m hm k h => ?_⟩
      · rw [hsbτ, Bool.or_eq_true] at h
        rcases h with h | h
        · exact s2 m hm s h
        · rw [Bool.and_eq_true] at h
          have e : m = b := of_decide_eq_true h.1
          rw [e]
          exact hSx S hSl s (s2 a hlx s h.2)
      · rw [hgbτ, Bool.or_eq_true] at h
        rcases h with h | h
        · exact s3 m hm k h
        · rw [Bool.and_eq_true] at h
          have e1 : m = a := of_decide_eq_true h.1
          have e2 : k = b := of_decide_eq_true h.2
          rw [e1, e2]
          exact fun s hs => hSx S hSl s hs
theorem fnode_lt {s f : Nat} (hs : s < 8) (hf : f < 2) : fnode s f < 28 := by
  unfold fnode
  omega
/-- edges from the fields f of the sites in 'set' to y -/
theorem Inv2.ef {Γs Γ : Gam} {σ : mS} {q : List Nat} {n : Nat} {X : Nat → Prop} {iL iS iE : Nat} (hI : Inv2 Γs Γ σ q n X iL iS iE) {set : Int32} {f y : Nat} (hf : f < 2) (hy : y < 28) (hS0 : ∀ S, Slv Γs S → ∀ s, s < 8 → bt set s = true → ∀ t, S (fnode s f) t → S y t) :
    ∀ k, k ≤ 8 → ∃ q', Inv2 Γs Γ (fEF σ set f y k) q' n X iL iS iE ∧ (∀ m, m ∈ q → m ∈ q') ∧ pot (fEF σ set f y k) q' ≤ pot σ q ∧ Gr σ (fEF σ set f y k) ∧ (∀ m s, sb (fEF σ set f y k) m s = true → fb (fEF σ set f y k) m s = false → sb σ m s = true ∧ fb σ m s = false) ∧ ∀ s, s < k → bt set s = true → Edge (fEF σ set f y k) (ld σ (fnode s f)) (ld σ y)
  | 0, _ => ⟨q, hI, fun _ h => h, Nat.le_refl _, Gr.rf σ, fun _ _ h1 h2 => ⟨h1, h2⟩, fun s h => absurd h (Nat.not_lt_zero s)⟩
  | k + 1, hk => by
    obtain ⟨q1, h1, h2, h3, h4, ho, h5⟩ := Inv2.ef hI hf hy hS0 k (by omega)
    unfold fEF
    by_cases hb : bt set k = true
    · rw [if_pos hb]
      obtain ⟨q2, g1, g2, g3, g4, go, g5⟩ := h1.edge (fnode_lt (s := k) (by omega) hf) hy (fun S hS t ht => hS0 S hS k (by omega) hb t ht)
      rw [ld_of0 h4.1, ld_of0 h4.1] at g5
      refine ⟨q2, g1, fun m hm => g2 m (h2 m hm), Nat.le_trans g3 h3, h4.tr g4, fun m s a b => ho m s (go m s a b).1 (go m s a b).2, fun s hs hbs => ?_⟩
      rcases Nat.lt_or_ge s k with q | q
      · exact g4.edge (h5 s q hbs)
      · rw [show s = k by omega]
        exact g5
    · rw [if_neg hb]
      refine ⟨q1, h1, h2, h3, h4, ho, fun s hs hbs => ?_⟩
      rcases Nat.lt_or_ge s k with q | q
      · exact h5 s q hbs
      · rw [show s = k by omega] at hbs
        exact absurd hbs hb
theorem Inv2.et {Γs Γ : Gam} {σ : mS} {q : List Nat} {n : Nat} {X : Nat → Prop} {iL iS iE : Nat} (hI : Inv2 Γs Γ σ q n X iL iS iE) {set : Int32} {f y : Nat} (hf : f < 2) (hy : y < 28) (hS0 : ∀ S, Slv Γs S → ∀ s, s < 8 → bt set s = true → ∀ t, S y t → S (fnode s f) t) :
    ∀ k, k ≤ 8 → ∃ q', Inv2 Γs Γ (fET σ set f y k) q' n X iL iS iE ∧ (∀ m, m ∈ q → m ∈ q') ∧ pot (fET σ set f y k) q' ≤ pot σ q ∧ Gr σ (fET σ set f y k) ∧ (∀ m s, sb (fET σ set f y k) m s = true → fb (fET σ set f y k) m s = false → sb σ m s = true ∧ fb σ m s = false) ∧ ∀ s, s < k → bt set s = true → Edge (fET σ set f y k) (ld σ y) (ld σ (fnode s f))
  | 0, _ => ⟨q, hI, fun _ h => h, Nat.le_refl _, Gr.rf σ, fun _ _ h1 h2 => ⟨h1, h2⟩, fun s h => absurd h (Nat.not_lt_zero s)⟩
  | k + 1, hk => by
    obtain ⟨q1, h1, h2, h3, h4, ho, h5⟩ := Inv2.et hI hf hy hS0 k (by omega)
    unfold fET
    by_cases hb : bt set k = true
    · rw [if_pos hb]
      obtain ⟨q2, g1, g2, g3, g4, go, g5⟩ := h1.edge hy (fnode_lt (s := k) (by omega) hf) (fun S hS t ht => hS0 S hS k (by omega) hb t ht)
      rw [ld_of0 h4.1, ld_of0 h4.1] at g5
      refine ⟨q2, g1, fun m hm => g2 m (h2 m hm), Nat.le_trans g3 h3, h4.tr g4, fun m s a b => ho m s (go m s a b).1 (go m s a b).2, fun s hs hbs => ?_⟩
      rcases Nat.lt_or_ge s k with q | q
      · exact g4.edge (h5 s q hbs)
      · rw [show s = k by omega]
        exact g5
    · rw [if_neg hb]
      refine ⟨q1, h1, h2, h3, h4, ho, fun s hs hbs => ?_⟩
      rcases Nat.lt_or_ge s k with q | q
      · exact h5 s q hbs
      · rw [show s = k by omega] at hbs
        exact absurd hbs hb
/-- the bounds alone are kept -/
theorem Wb.add {σ : mS} (h : Wb σ) (x : Nat) (set : Int32) : Wb (fAdd σ x set) := by
  have hR := fAdd_R σ x set
  obtain ⟨h1, t, ht, ht2⟩ := h
  refine ⟨fun y hy => by rw [ld_of0 hR.1, hR.1]; exact h1 y hy, ?_⟩
  have key : ∀ τ : mS, τ 7 = σ 7 → ∀ n, ∃ t, t < 32 ∧ fEnq τ n 7 0 = nI t := by
    intro τ hτ n
    unfold fEnq
    split
    · refine ⟨(t + 1) % 32, Nat.mod_lt _ (by decide), ?_⟩
      rw [mU_s, hτ, ht2, nI_1, zn_and31 (by omega)]
    · exact ⟨t, ht, by rw [hτ]; exact ht2⟩
  unfold fAdd
  split
  · exact ⟨t, ht, ht2⟩
  · exact key _ (by rw [mU_ne (by decide), mU_ne (by decide)]) _
theorem Wb.edge {σ : mS} (h : Wb σ) (x y : Nat) : Wb (fEdge σ x y) := by
  unfold fEdge
  split
  · exact h
  · refine Wb.add ⟨fun z hz => ?_, ?_⟩ _ _
    · have e : mU σ 3 (ld σ x) (σ 3 (ld σ x) ||| ((1 : Int32) <<< (nI (ld σ y) &&& 31))) 0 = σ 0 := mU_ne (by decide)
      rw [ld_of0 e, e]
      exact h.1 z hz
    · rw [mU_ne (by decide)]
      exact h.2
theorem fEdge_ld (σ : mS) (x y z : Nat) : ld (fEdge σ x y) z = ld σ z := by
  unfold fEdge
  split
  · rfl
  · rw [fAdd_ld]
    exact ld_of0 (mU_ne (by decide)) z
theorem Wb.ef {σ : mS} (h : Wb σ) (set : Int32) (f y : Nat) : ∀ k, Wb (fEF σ set f y k)
  | 0 => h
  | k + 1 => by
    unfold fEF
    split
    · exact (Wb.ef h set f y k).edge _ _
    · exact Wb.ef h set f y k
theorem Wb.et {σ : mS} (h : Wb σ) (set : Int32) (f y : Nat) : ∀ k, Wb (fET σ set f y k)
  | 0 => h
  | k + 1 => by
    unfold fET
    split
    · exact (Wb.et h set f y k).edge _ _
    · exact Wb.et h set f y k
-- ===== two leaders made one =====
theorem fJoin_view {σ : mS} {q : List Nat} (hW : WF σ q) {x k : Nat} (hx : x < 28) (hk : k < 28) (hxk : x ≠ k) (hlx : ld σ x = x) (hlk : ld σ k = k) :
    (∀ i, i < 28 → ld (fJoin σ x k) i = if ld σ i = k then x else ld σ i) ∧ (∀ i, i < 28 → fJoin σ x k 0 i = nI (ld (fJoin σ x k) i)) ∧
    (∀ m s, sb (fJoin σ x k) m s = (sb σ m s || (decide (m = x) && sb σ k s))) ∧ (∀ m s, fb (fJoin σ x k) m s = if m = x then sb (fJoin σ x k) x s else fb σ m s) ∧
    (∀ m j, gb (fJoin σ x k) m j = (gb σ m j || (decide (m = x) && gb σ k j))) ∧ QR (fJoin σ x k) (qadd q x) ∧ Fr σ (fJoin σ x k) := by
  have h0 : fJoin σ x k 0 = fun i => if i < 28 ∧ σ 0 i = nI k then nI x else σ 0 i := by
    unfold fJoin
    rw [fEnq_k (by decide) (by decide) (by decide), mU_ne (by decide), mU_ne (by decide), mU_ne (by decide)]
    rfl
  have hl : ∀ i, i < 28 → ld (fJoin σ x k) i = if ld σ i = k then x else ld σ i := by
    intro i hi
    obtain ⟨e1, e2, -⟩ := hW.1 i hi
    show nv (fJoin σ x k 0 i) = _
    rw [h0]
    show nv (if i < 28 ∧ σ 0 i = nI k then nI x else σ 0 i) = _
    by_cases hc : ld σ i = k
    · rw [if_pos hc, if_pos ⟨hi, by rw [e1, hc]⟩, nv_nI (by omega)]
    · rw [if_neg hc, if_neg]
      · rfl
      · rintro ⟨-, h⟩
        rw [e1] at h
        exact hc (zn_inj (by omega) (by omega) h)
  have h1 : ∀ m, fJoin σ x k 1 m = if m = x then σ 1 x ||| σ 1 k else σ 1 m := by
    intro m
    unfold fJoin
    rw [fEnq_k (by decide) (by decide) (by decide), mU_ne (by decide), mU_ne (by decide)]
    by_cases e : m = x
    · rw [e, mU_s, if_pos rfl]
    · rw [mU_o (Or.inr e), if_neg e]
      rfl
  have hsb : ∀ m s, sb (fJoin σ x k) m s = (sb σ m s || (decide (m = x) && sb σ k s)) := by
    intro m s
    show bt (fJoin σ x k 1 m) s = _
    rw [h1]
    by_cases e : m = x
    · subst e
      rw [if_pos rfl, b_or]
      simp [sb]
    · rw [if_neg e]
      simp [e, sb]
  refine ⟨hl, fun i hi => ?_, hsb, fun m s => ?_, fun m j => ?_, ?_, fun j hj => ?_⟩
  · rw [hl i hi, h0]
    obtain ⟨e1, e2, -⟩ := hW.1 i hi
    show (if i < 28 ∧ σ 0 i = nI k then nI x else σ 0 i) = _
    by_cases hc : ld σ i = k
    · rw [if_pos hc, if_pos ⟨hi, by rw [e1, hc]⟩]
    · rw [if_neg hc, if_neg]
      · exact e1
      · rintro ⟨-, h⟩
        rw [e1] at h
        exact hc (zn_inj (by omega) (by omega) h)
  · show bt (fJoin σ x k 2 m) s = _
    have e2 : fJoin σ x k 2 m = if m = x then σ 1 x ||| σ 1 k else σ 2 m := by
      unfold fJoin
      rw [fEnq_k (by decide) (by decide) (by decide)]
      by_cases e : m = x
      · rw [e, mU_s, if_pos rfl]
      · rw [mU_o (Or.inr e), if_neg e, mU_ne (by decide), mU_ne (by decide)]
        rfl
    rw [e2]
    by_cases e : m = x
    · rw [if_pos e, if_pos e]
      show _ = bt (fJoin σ x k 1 x) s
      rw [h1, if_pos rfl]
    · rw [if_neg e, if_neg e]
      rfl
  · show bt (fJoin σ x k 3 m) j = _
    have e2 : fJoin σ x k 3 m = if m = x then σ 3 x ||| σ 3 k else σ 3 m := by
      unfold fJoin
      rw [fEnq_k (by decide) (by decide) (by decide), mU_ne (by decide)]
      by_cases e : m = x
      · rw [e, mU_s, if_pos rfl]
      · rw [mU_o (Or.inr e), if_neg e, mU_ne (by decide)]
        rfl
    rw [e2]
    by_cases e : m = x
    · subst e
      rw [if_pos rfl, b_or]
      simp [gb]
    · rw [if_neg e]
      simp [e, gb]
  · unfold fJoin
    refine QR.enq ?_ hx
    obtain ⟨h1, h2, h3, hd, hd1, hd2, hd3, hd4⟩ := hW.2.2.2.2.1
    refine ⟨h1, h2, fun m hm => ?_, hd, hd1, ?_, ?_, fun i m hi => ?_⟩
    · rw [mU_ne (by decide), mU_ne (by decide), mU_ne (by decide)]; exact h3 m hm
    · rw [mU_ne (by decide), mU_ne (by decide), mU_ne (by decide)]; exact hd2
    · rw [mU_ne (by decide), mU_ne (by decide), mU_ne (by decide)]; exact hd3
    · rw [mU_ne (by decide), mU_ne (by decide), mU_ne (by decide)]; exact hd4 i m hi
  · unfold fJoin
    rw [fEnq_k (by omega) (by omega) (by omega), mU_ne (by omega), mU_ne (by omega), mU_ne (by omega)]
    exact if_neg (by omega)
theorem Inv2.join {Γs Γ : Gam} {σ : mS} {q : List Nat} {X : Nat → Prop} {iL iS iE x : Nat} (hI : Inv2 Γs Γ σ q x X iL iS iE) (hGB : GB Γ) {k : Nat} (hx : x < 28) (hk : k < 28) (hxk : x ≠ k) (hlx : ld σ x = x) (hlk : ld σ k = k) (hS0 : ∀ S, Slv Γs S → ∀ s, S x s ↔ S k s) :
    Inv2 Γs Γ (fJoin σ x k) (qadd q x) x X iL iS iE ∧ pot (fJoin σ x k) (qadd q x) ≤ pot σ q ∧ Fr σ (fJoin σ x k) ∧ ld (fJoin σ x k) x = x ∧ (∀ m s, sb σ m s = true → sb (fJoin σ x k) m s = true) ∧ (∀ m s, m < 28 → sb σ (ld σ m) s = true → sb (fJoin σ x k) (ld (fJoin σ x k) m) s = true) ∧ ∀ s, sb (fJoin σ x k) x s = true → fb (fJoin σ x k) x s = true := by
  obtain ⟨hW, hS, hC, hK⟩ := hI
  obtain ⟨hl, hl0, hsb, hfb, hgb, hQ, hFr⟩ := fJoin_view hW hx hk hxk hlx hlk
  obtain ⟨w1, w2, w3, w4, w5, w6⟩ := hW
  generalize fJoin σ x k = τ at hl hl0 hsb hfb hgb hQ hFr
  have hlτx : ld τ x = x := by rw [hl x hx, if_neg (by rw [hlx]; exact hxk), hlx]
  have hlt : ∀ i, i < 28 → ld τ i < 28 := fun i hi => by
    rw [hl i hi]
    split
    · exact hx
    · exact (w1 i hi).2.1
  have hsm : ∀ m s, sb σ m s = true → sb τ m s = true := fun m s h => by rw [hsb, h]; rfl
  have hsl : ∀ m s, m < 28 → sb σ (ld σ m) s = true → sb τ (ld τ m) s = true := by
    intro m s hm h
    rw [hl m hm]
    by_cases e : ld σ m = k
    · rw [if_pos e, hsb]
      rw [e] at h
      rw [h]
      simp
    · rw [if_neg e]
      exact hsm _ _ h
  have hE : ∀ u v, u < 28 → v < 28 → Edge σ (ld σ u) (ld σ v) → Edge τ (ld τ u) (ld τ v) := by
    intro u v hu hv h
    rcases h with h | ⟨m, hm, h1, h2⟩
    · left
      rw [hl u hu, hl v hv, h]
    · right
      refine ⟨m, hm, ?_, by rw [hl m hm, hl v hv, h2]⟩
      rw [hl u hu]
      by_cases e : ld σ u = k
      · rw [if_pos e, hgb]
        rw [e] at h1
        rw [h1]
        simp
      · rw [if_neg e, hgb, h1]
        rfl
  have hfx : ∀ s, sb τ x s = true → fb τ x s = true := fun s h => by rw [hfb, if_pos rfl]; exact h
  refine ⟨⟨⟨fun i hi => ⟨hl0 i hi, hlt i hi, ?_⟩, fun m hm s h => ?_, fun m hm j h => ?_, fun m hm s h => ?_, hQ, fun m hm hlm s h => ?_⟩, fun S hSl => ?_, ⟨fun v s h => ?_, fun v w h => ?_⟩, fun a ha hla m hm hg s h1 h2 hX => ?_, fun i p hp s h1 h2 hX => ?_, fun i p hp s h1 h2 hX => ?_⟩, ?_, hFr, hlτx, hsm, hsl, hfx⟩
  · rw [hl i hi]
    by_cases e : ld σ i = k
    · rw [if_pos e]; exact hlτx
    · rw [if_neg e, hl _ (w1 i hi).2.1, (w1 i hi).2.2, if_neg e]
  · rw [hsb, Bool.or_eq_true] at h
    rcases h with h | h
    · exact w2 m hm s h
    · rw [Bool.and_eq_true] at h
      exact w2 k hk s h.2
  · rw [hgb, Bool.or_eq_true] at h
    rcases h with h | h
    · exact w3 m hm j h
    · rw [Bool.and_eq_true] at h
      exact w3 k hk j h.2
  · rw [hfb] at h
    by_cases e : m = x
    · rw [if_pos e] at h
      rw [e]; exact h
    · rw [if_neg e] at h
      exact hsm _ _ (w4 m hm s h)
  · by_cases e : m = x
    · exact qadd_mem.mpr (Or.inr e)
    · rw [hfb, if_neg e] at h
      rw [hl m hm] at hlm
      by_cases e2 : ld σ m = k
      · rw [if_pos e2] at hlm
        exact absurd hlm.symm e
      · rw [if_neg e2] at hlm
        exact qadd_mem.mpr (Or.inl (w6 m hm hlm s h))
  · obtain ⟨s1, s2, s3⟩ := hS S hSl
    have hxk2 := hS0 S hSl
    refine ⟨fun i hi s => ?_, fun m hm s h => ?_, fun m hm j h s hs => ?_⟩
    · rw [hl i hi]
      by_cases e : ld σ i = k
      · rw [if_pos e, s1 i hi s, e]
        exact (hxk2 s).symm
      · rw [if_neg e]
        exact s1 i hi s
    · rw [hsb, Bool.or_eq_true] at h
      rcases h with h | h
      · exact s2 m hm s h
      · rw [Bool.and_eq_true] at h
        have e : m = x := of_decide_eq_true h.1
        rw [e]
        exact (hxk2 s).mpr (s2 k hk s h.2)
    · rw [hgb, Bool.or_eq_true] at h
      rcases h with h | h
      · exact s3 m hm j h s hs
      · rw [Bool.and_eq_true] at h
        have e : m = x := of_decide_eq_true h.1
        rw [e] at hs
        exact s3 k hk j h.2 s ((hxk2 s).mp hs)
  · have hv := (hGB.1 v s h).1
    exact hsl v s (by omega) (hC.1 v s h)
  · have hv := hGB.2.1 v w h
    exact hE w v (by omega) (by omega) (hC.2 v w h)
  · by_cases e : a = x
    · subst e
      rw [hfx s h1] at h2
      cases h2
    · have hla2 : ld σ a = a := by
        rw [hl a ha] at hla
        by_cases e2 : ld σ a = k
        · rw [if_pos e2] at hla
          exact absurd hla.symm e
        · rw [if_neg e2] at hla
          exact hla
      have hg2 : gb σ a m = true := by
        rw [hgb, decide_eq_false e] at hg
        simpa using hg
      have h1' : sb σ a s = true := by
        rw [hsb, decide_eq_false e] at h1
        simpa using h1
      rw [hfb, if_neg e] at h2
      exact hsl m s hm (hK.1 a ha hla2 m hm hg2 s h1' h2 (fun q => absurd q e))
  · have hb := hGB.2.2.1 p (List.mem_of_getElem? hp)
    by_cases e : ld τ p.2.1 = x
    · rw [e] at h1 h2
      rw [hfx s h1] at h2
      cases h2
    · have e2 : ld σ p.2.1 ≠ k := fun q => e (by rw [hl _ (by omega), if_pos q])
      have e3 : ld τ p.2.1 = ld σ p.2.1 := by rw [hl _ (by omega), if_neg e2]
      rw [e3] at h1 h2 e
      rw [hsb, decide_eq_false e] at h1
      rw [hfb, if_neg e] at h2
      have h1' : sb σ (ld σ p.2.1) s = true := by simpa using h1
      have h8 : s < 8 := w2 _ (w1 p.2.1 (by omega)).2.1 s h1'
      exact hE _ _ (fnode_lt h8 hb.2.2) (by omega) (hK.2.1 i p hp s h1' h2 (fun q => absurd q e))
  · have hb := hGB.2.2.2 p (List.mem_of_getElem? hp)
    by_cases e : ld τ p.1 = x
    · rw [e] at h1 h2
      rw [hfx s h1] at h2
      cases h2
    · have e2 : ld σ p.1 ≠ k := fun q => e (by rw [hl _ (by omega), if_pos q])
      have e3 : ld τ p.1 = ld σ p.1 := by rw [hl _ (by omega), if_neg e2]
      rw [e3] at h1 h2 e
      rw [hsb, decide_eq_false e] at h1
      rw [hfb, if_neg e] at h2
      have h1' : sb σ (ld σ p.1) s = true := by simpa using h1
      have h8 : s < 8 := w2 _ (w1 p.1 (by omega)).2.1 s h1'
      exact hE _ _ (by omega) (fnode_lt h8 hb.2.1) (hK.2.2 i p hp s h1' h2 (fun q => absurd q e))
  · have hlen := qadd_len q x
    have hsum : fb_sm (fun n => 8 - zcnt (τ 1 n)) 28 ≤ fb_sm (fun n => 8 - zcnt (σ 1 n)) 28 := by
      refine fb_sm_le fun m _ => ?_
      have := zcnt_mono (x := σ 1 m) (y := τ 1 m) (fun s h => hsm m s h)
      show 8 - zcnt (τ 1 m) ≤ 8 - zcnt (σ 1 m)
      omega
    have hct : fb_ct (fun n => decide (ld τ n = n)) 28 + 1 ≤ fb_ct (fun n => decide (ld σ n = n)) 28 := by
      have e := fb_ct_upd (fun n => decide (ld σ n = n)) false hk
      have h2 : fb_ct (fun n => decide (ld τ n = n)) 28 ≤ fb_ct (fun n => if n = k then false else decide (ld σ n = n)) 28 := by
        refine fb_ct_sub fun m hm h => ?_
        have h := of_decide_eq_true h
        rw [hl m hm] at h
        by_cases e2 : ld σ m = k
        · rw [if_pos e2] at h
          rw [← h, hlx] at e2
          exact absurd e2 hxk
        · rw [if_neg e2] at h
          rw [if_neg (fun q => e2 (by rw [q]; exact hlk))]
          exact decide_eq_true h
      rw [decide_eq_true hlk] at e
      simp only [Bool.false_eq_true, if_false, if_true] at e
      omega
    unfold pot
    omega
end
section
/-! contracts of RaceFinder's static and solver methods: X0p_.. what is asked, X0q_.. what is given -/
set_option maxRecDepth 100000
def X0p_badVariable (vs : List Int32) (_ : mS) : Prop := ∃ v, vs = [v]
def X0q_badVariable (vs : List Int32) (_ : mS) (r : Int32) : Prop := ∀ v, vs = [v] → (r = 1 ∧ (v < 0 ∨ nI 12 ≤ v)) ∨ (r = 0 ∧ ∃ j, j < 12 ∧ v = nI j)
def X0p_badSite (vs : List Int32) (_ : mS) : Prop := ∃ v, vs = [v]
def X0q_badSite (vs : List Int32) (_ : mS) (r : Int32) : Prop := ∀ v, vs = [v] → (r = 1 ∧ (v < 0 ∨ nI 8 ≤ v)) ∨ (r = 0 ∧ ∃ j, j < 8 ∧ v = nI j)
def X0p_badField (vs : List Int32) (_ : mS) : Prop := ∃ v, vs = [v]
def X0q_badField (vs : List Int32) (_ : mS) (r : Int32) : Prop := ∀ v, vs = [v] → (r = 1 ∧ (v < 0 ∨ nI 2 ≤ v)) ∨ (r = 0 ∧ ∃ j, j < 2 ∧ v = nI j)
def X0p_fieldNode (vs : List Int32) (_ : mS) : Prop := ∃ s f, vs = [s, f]
def X0q_fieldNode (vs : List Int32) (_ : mS) (r : Int32) : Prop := ∀ s f, s < 8 → f < 2 → vs = [nI s, nI f] → r = nI (fnode s f)
def X0p_bits (vs : List Int32) (_ : mS) : Prop := ∃ a, vs = [a]
def X0q_bits (vs : List Int32) (_ : mS) (r : Int32) : Prop := ∀ a, vs = [a] → r = nI (zcnt a)
def X0p_enqueue (vs : List Int32) (σ : mS) : Prop := ∃ x, x < 28 ∧ vs = [nI x] ∧ ∃ t, t < 32 ∧ σ 7 0 = nI t
def X0q_enqueue (vs : List Int32) (σ τ : mS) : Prop := ∀ x, x < 28 → vs = [nI x] → τ = fEnq σ x
def X0p_addSites (vs : List Int32) (σ : mS) : Prop := ∃ x set, x < 28 ∧ vs = [nI x, set] ∧ Wb σ
def X0q_addSites (vs : List Int32) (σ τ : mS) : Prop := ∀ x set, x < 28 → vs = [nI x, set] → τ = fAdd σ x set
def X0p_addEdge (vs : List Int32) (σ : mS) : Prop := ∃ x y, x < 28 ∧ y < 28 ∧ vs = [nI x, nI y] ∧ Wb σ
def X0q_addEdge (vs : List Int32) (σ τ : mS) : Prop := ∀ x y, x < 28 → y < 28 → vs = [nI x, nI y] → τ = fEdge σ x y
def X0p_edgesFromFields (vs : List Int32) (σ : mS) : Prop := ∃ set f y, f < 2 ∧ y < 28 ∧ vs = [set, nI f, nI y] ∧ Wb σ
def X0q_edgesFromFields (vs : List Int32) (σ τ : mS) : Prop := ∀ set f y, f < 2 → y < 28 → vs = [set, nI f, nI y] → τ = fEF σ set f y 8
def X0p_edgesToFields (vs : List Int32) (σ : mS) : Prop := ∃ set f y, f < 2 ∧ y < 28 ∧ vs = [set, nI f, nI y] ∧ Wb σ
def X0q_edgesToFields (vs : List Int32) (σ τ : mS) : Prop := ∀ set f y, f < 2 → y < 28 → vs = [set, nI f, nI y] → τ = fET σ set f y 8
def X0p_leadersOf (vs : List Int32) (σ : mS) : Prop := ∃ a, vs = [a] ∧ Wb σ
def X0q_leadersOf (vs : List Int32) (σ : mS) (r : Int32) : Prop := ∀ a, vs = [a] → ∀ j, bt r j = true → ∃ m, m < 28 ∧ bt a m = true ∧ ld σ m = j
/-- x leads to j over edges, by leaders -/
def Path (σ : mS) (x j : Nat) : Prop := ∀ R : Nat → Prop, R x → (∀ n m, n < 28 → m < 28 → R n → gb σ n m = true → R (ld σ m)) → R j
def X0p_reach (vs : List Int32) (σ : mS) : Prop := ∃ x, x < 28 ∧ vs = [nI x] ∧ Wb σ
def X0q_reach (vs : List Int32) (σ : mS) (r : Int32) : Prop := ∀ x, x < 28 → vs = [nI x] → ∀ j, bt r j = true → j < 28 ∧ Path σ x j
def X0p_join (vs : List Int32) (σ : mS) : Prop := ∃ x k, x < 28 ∧ k < 28 ∧ vs = [nI x, nI k] ∧ Wb σ
def X0q_join (vs : List Int32) (σ τ : mS) : Prop := ∀ x k, x < 28 → k < 28 → vs = [nI x, nI k] → τ = fJoin σ x k
/-- the ghost: what the caller wants kept by joins -/
def X0p_tryCircle (I : mS → Prop) (vs : List Int32) (σ : mS) : Prop := ∃ x y, x < 28 ∧ y < 28 ∧ vs = [nI x, nI y] ∧ I σ ∧ (∀ τ, I τ → Wb τ) ∧
  ∀ τ k, I τ → k < 28 → x ≠ k → ld τ k = k → Path σ y k → Path τ k x → I (fJoin τ x k)
def X0q_tryCircle (I : mS → Prop) (_ : List Int32) (_ τ : mS) : Prop := I τ
/-- the loads and stores as the arrays hold them -/
def LR (Γ : Gam) (σ : mS) : Prop := (σ 8 0 = nI Γ.2.2.1.length ∧ Γ.2.2.1.length ≤ 20 ∧ ∀ (i : Nat) (p : Nat × Nat × Nat), Γ.2.2.1[i]? = some p → σ 9 i = nI p.1 ∧ σ 10 i = nI p.2.1 ∧ σ 11 i = nI p.2.2) ∧
  (σ 12 0 = nI Γ.2.2.2.length ∧ Γ.2.2.2.length ≤ 20 ∧ ∀ (i : Nat) (p : Nat × Nat × Nat), Γ.2.2.2[i]? = some p → σ 13 i = nI p.1 ∧ σ 14 i = nI p.2.1 ∧ σ 15 i = nI p.2.2)
theorem LR.fr {Γ : Gam} {σ τ : mS} (h : LR Γ σ) (hF : Fr σ τ) : LR Γ τ := by
  unfold LR
  rw [hF 8 (by decide), hF 9 (by decide), hF 10 (by decide), hF 11 (by decide), hF 12 (by decide), hF 13 (by decide), hF 14 (by decide), hF 15 (by decide)]
  exact h
abbrev INV (Γ : Gam) (σ : mS) (q : List Nat) : Prop := Inv Γ σ q 0 (fun _ => False) 0 0 0
def X0p_pass (g : Gam × List Nat) (vs : List Int32) (σ : mS) : Prop := ∃ x, x < 28 ∧ vs = [nI x] ∧ GB g.1 ∧ ld σ x = x ∧ LR g.1 σ ∧ Inv g.1 (mU σ 2 x 0) g.2 x (fun s => bt (σ 2 x) s = true) 0 0 0 ∧ ∀ s, bt (σ 2 x) s = true → sb σ x s = true
def X0q_pass (g : Gam × List Nat) (_ : List Int32) (σ τ : mS) : Prop := ∃ q', INV g.1 τ q' ∧ pot τ q' ≤ pot σ g.2 ∧ Fr σ τ
def X0p_solve (Γ : Gam) (vs : List Int32) (σ : mS) : Prop := vs = [] ∧ GB Γ ∧ LR Γ σ ∧ ∃ q, INV Γ σ q
def X0q_solve (Γ : Gam) (_ : List Int32) (σ τ : mS) : Prop := INV Γ τ [] ∧ Fr σ τ
end
section
/-! printed by gen/run.py: programs and verification conditions -/
set_option maxRecDepth 100000
def X0t_badVariable : mT := mTp X0p_badVariable X0q_badVariable
def X0t_badSite : mT := mTp X0p_badSite X0q_badSite
def X0t_badField : mT := mTp X0p_badField X0q_badField
def X0t_fieldNode : mT := mTp X0p_fieldNode X0q_fieldNode
def X0t_bits : mT := mTp X0p_bits X0q_bits
def X0t_enqueue : mT := mTv X0p_enqueue X0q_enqueue
def X0t_addSites : mT := mTv X0p_addSites X0q_addSites
def X0t_addEdge : mT := mTv X0p_addEdge X0q_addEdge
def X0t_edgesFromFields : mT := mTv X0p_edgesFromFields X0q_edgesFromFields
def X0t_edgesToFields : mT := mTv X0p_edgesToFields X0q_edgesToFields
def X0t_leadersOf : mT := mTp X0p_leadersOf X0q_leadersOf
def X0t_reach : mT := mTp X0p_reach X0q_reach
def X0t_join : mT := mTv X0p_join X0q_join
def X0t_tryCircle : mT := mGv X0p_tryCircle X0q_tryCircle
def X0t_pass : mT := mGv X0p_pass X0q_pass
def X0t_solve : mT := mGv X0p_solve X0q_solve
def X0g_badVariable : mP := (X0b_badVariable, flX0, fdX0, some .boolean, [], [])
theorem X0v_badVariable_0 {G : Nat → mL → List mv → mS → Prop} {Q : Option Int32 → mS → Prop} (hG : mCl X0g_badVariable G Q) (v0 : Int32) (σ : mS)
    (h : ((v0 < (0 : Int32) → (((1 : Int32) = 0 ∨ (1 : Int32) = 1) ∧ Q (some 1) σ)) ∧ (¬ v0 < (0 : Int32) → ((v0 < (12 : Int32) → (((0 : Int32) = 0 ∨ (0 : Int32) = 1) ∧ Q (some 0) σ)) ∧ (¬ v0 < (12 : Int32) → (((1 : Int32) = 0 ∨ (1 : Int32) = 1) ∧ Q (some 1) σ)))))) : G 0 [some (.inl v0)] [] σ := hG 8 0 _ _ _ h
def X0g_badSite : mP := (X0b_badSite, flX0, fdX0, some .boolean, [], [])
theorem X0v_badSite_0 {G : Nat → mL → List mv → mS → Prop} {Q : Option Int32 → mS → Prop} (hG : mCl X0g_badSite G Q) (v0 : Int32) (σ : mS)
    (h : ((v0 < (0 : Int32) → (((1 : Int32) = 0 ∨ (1 : Int32) = 1) ∧ Q (some 1) σ)) ∧ (¬ v0 < (0 : Int32) → ((v0 < (8 : Int32) → (((0 : Int32) = 0 ∨ (0 : Int32) = 1) ∧ Q (some 0) σ)) ∧ (¬ v0 < (8 : Int32) → (((1 : Int32) = 0 ∨ (1 : Int32) = 1) ∧ Q (some 1) σ)))))) : G 0 [some (.inl v0)] [] σ := hG 8 0 _ _ _ h
def X0g_badField : mP := (X0b_badField, flX0, fdX0, some .boolean, [], [])
theorem X0v_badField_0 {G : Nat → mL → List mv → mS → Prop} {Q : Option Int32 → mS → Prop} (hG : mCl X0g_badField G Q) (v0 : Int32) (σ : mS)
    (h : ((v0 < (0 : Int32) → (((1 : Int32) = 0 ∨ (1 : Int32) = 1) ∧ Q (some 1) σ)) ∧ (¬ v0 < (0 : Int32) → ((v0 ≤ (1 : Int32) → (((0 : Int32) = 0 ∨ (0 : Int32) = 1) ∧ Q (some 0) σ)) ∧ (¬ v0 ≤ (1 : Int32) → (((1 : Int32) = 0 ∨ (1 : Int32) = 1) ∧ Q (some 1) σ)))))) : G 0 [some (.inl v0)] [] σ := hG 8 0 _ _ _ h
def X0g_fieldNode : mP := (X0b_fieldNode, flX0, fdX0, some .int, [], [])
theorem X0v_fieldNode_0 {G : Nat → mL → List mv → mS → Prop} {Q : Option Int32 → mS → Prop} (hG : mCl X0g_fieldNode G Q) (v0 v1 : Int32) (σ : mS)
    (h : Q (some ((12 + (2 * v0)) + v1)) σ) : G 0 [some (.inl v0), some (.inl v1)] [] σ := hG 8 0 _ _ _ h
def X0g_bits : mP := (X0b_bits, flX0, fdX0, some .int, [], [(4, [true, true, true])])
theorem X0v_bits_0 {G : Nat → mL → List mv → mS → Prop} {Q : Option Int32 → mS → Prop} (hG : mCl X0g_bits G Q) (v0 : Int32) (σ : mS)
    (h : G 4 [some (.inl v0), some (.inl 0), some (.inl 0)] [] σ) : G 0 [some (.inl v0), none, none] [] σ := hG 5 0 _ _ _ h
theorem X0v_bits_4 {G : Nat → mL → List mv → mS → Prop} {Q : Option Int32 → mS → Prop} (hG : mCl X0g_bits G Q) (v0 v1 v2 : Int32) (σ : mS)
    (h : (((8 : Int32) ≤ v2 → Q (some v1) σ) ∧ (¬ (8 : Int32) ≤ v2 → G 4 [some (.inl v0), some (.inl (v1 + ((v0 >>> (v2 &&& 31)) &&& 1))), some (.inl (v2 + 1))] [] σ))) : G 4 [some (.inl v0), some (.inl v1), some (.inl v2)] [] σ := hG 14 4 _ _ _ h
def X0g_enqueue : mP := (X0b_enqueue, flX0, fdX0, none, [], [])
theorem X0v_enqueue_0 {G : Nat → mL → List mv → mS → Prop} {Q : Option Int32 → mS → Prop} (hG : mCl X0g_enqueue G Q) (v1 : Int32) (σ : mS)
    (h : (vp_in v1 28 ∧ ∀ x1 : Int32, x1 = σ 4 v1.toNatClampNeg → ((x1 = (0 : Int32) → (vp_in v1 28 ∧ (vp_in (σ 7 0) 32 ∧ Q none (mU (mU (mU σ 4 v1.toNatClampNeg ((1 : Int32) &&& 1)) 5 (σ 7 0).toNatClampNeg v1) 7 0 (((σ 7 0) + 1) &&& 31))))) ∧ (¬ x1 = (0 : Int32) → Q none σ)))) : G 0 [some (.inr 99), some (.inl v1)] [] σ := hG 25 0 _ _ _ h
def X0g_addSites : mP := (X0b_addSites, flX0, fdX0, none, [(83, 1, true, X0t_enqueue)], [])
theorem X0v_addSites_0 {G : Nat → mL → List mv → mS → Prop} {Q : Option Int32 → mS → Prop} (hG : mCl X0g_addSites G Q) (v1 v2 : Int32) (σ : mS)
    (h : (vp_in v1 28 ∧ ∀ x1 : Int32, x1 = σ 0 v1.toNatClampNeg → (vp_in x1 28 ∧ ∀ x2 : Int32, x2 = σ 1 x1.toNatClampNeg → ((¬ (v2 &&& (x2 ^^^ (-1))) = (0 : Int32) → (vp_in x1 28 ∧ ∀ x3 : Int32, x3 = σ 1 x1.toNatClampNeg → (vp_in x1 28 ∧ (vp_in x1 28 ∧ ∀ x4 : Int32, x4 = σ 2 x1.toNatClampNeg → (vp_in x1 28 ∧ (X0p_enqueue [x1] (mU (mU σ 1 x1.toNatClampNeg (x3 ||| (v2 &&& (x2 ^^^ (-1))))) 2 x1.toNatClampNeg (x4 ||| (v2 &&& (x2 ^^^ (-1))))) ∧ ∀ s5 : mS, X0q_enqueue [x1] (mU (mU σ 1 x1.toNatClampNeg (x3 ||| (v2 &&& (x2 ^^^ (-1))))) 2 x1.toNatClampNeg (x4 ||| (v2 &&& (x2 ^^^ (-1))))) s5 → Q none s5)))))) ∧ ((v2 &&& (x2 ^^^ (-1))) = (0 : Int32) → Q none σ))))) : G 0 [some (.inr 99), some (.inl v1), some (.inl v2), none, none] [] σ := hG 36 0 _ _ _ h
def X0g_addEdge : mP := (X0b_addEdge, flX0, fdX0, none, [(91, 2, true, X0t_addSites)], [])
theorem X0v_addEdge_0 {G : Nat → mL → List mv → mS → Prop} {Q : Option Int32 → mS → Prop} (hG : mCl X0g_addEdge G Q) (v1 v2 : Int32) (σ : mS)
    (h : (vp_in v1 28 ∧ ∀ x1 : Int32, x1 = σ 0 v1.toNatClampNeg → (vp_in v2 28 ∧ ∀ x2 : Int32, x2 = σ 0 v2.toNatClampNeg → ((x1 = x2 → Q none σ) ∧ (¬ x1 = x2 → (vp_in x1 28 ∧ ∀ x3 : Int32, x3 = σ 3 x1.toNatClampNeg → ((¬ ((x3 >>> (x2 &&& 31)) &&& 1) = (1 : Int32) → (vp_in x1 28 ∧ ∀ x4 : Int32, x4 = σ 3 x1.toNatClampNeg → (vp_in x1 28 ∧ (vp_in x1 28 ∧ ∀ x5 : Int32, x5 = σ 1 x1.toNatClampNeg → (X0p_addSites [x2, x5] (mU σ 3 x1.toNatClampNeg (x4 ||| ((1 : Int32) <<< (x2 &&& 31)))) ∧ ∀ s6 : mS, X0q_addSites [x2, x5] (mU σ 3 x1.toNatClampNeg (x4 ||| ((1 : Int32) <<< (x2 &&& 31)))) s6 → Q none s6))))) ∧ (((x3 >>> (x2 &&& 31)) &&& 1) = (1 : Int32) → Q none σ)))))))) : G 0 [some (.inr 99), some (.inl v1), some (.inl v2), none, none] [] σ := hG 41 0 _ _ _ h
def X0g_edgesFromFields : mP := (X0b_edgesFromFields, flX0, fdX0, none, [(117, 2, false, X0t_fieldNode), (121, 2, true, X0t_addEdge)], [(3, [true, true, true, true, true])])
theorem X0v_edgesFromFields_0 {G : Nat → mL → List mv → mS → Prop} {Q : Option Int32 → mS → Prop} (hG : mCl X0g_edgesFromFields G Q) (v1 v2 v3 : Int32) (σ : mS)
    (h : G 3 [some (.inr 99), some (.inl v1), some (.inl v2), some (.inl v3), some (.inl 0)] [] σ) : G 0 [some (.inr 99), some (.inl v1), some (.inl v2), some (.inl v3), none] [] σ := hG 3 0 _ _ _ h
theorem X0v_edgesFromFields_3 {G : Nat → mL → List mv → mS → Prop} {Q : Option Int32 → mS → Prop} (hG : mCl X0g_edgesFromFields G Q) (v1 v2 v3 v4 : Int32) (σ : mS)
    (h : (((8 : Int32) ≤ v4 → Q none σ) ∧ (¬ (8 : Int32) ≤ v4 → ((¬ ((v1 >>> (v4 &&& 31)) &&& 1) = (1 : Int32) → G 3 [some (.inr 99), some (.inl v1), some (.inl v2), some (.inl v3), some (.inl (v4 + 1))] [] σ) ∧ (((v1 >>> (v4 &&& 31)) &&& 1) = (1 : Int32) → (X0p_fieldNode [v4, v2] σ ∧ ∀ x1 : Int32, X0q_fieldNode [v4, v2] σ x1 → (X0p_addEdge [x1, v3] σ ∧ ∀ s2 : mS, X0q_addEdge [x1, v3] σ s2 → G 3 [some (.inr 99), some (.inl v1), some (.inl v2), some (.inl v3), some (.inl (v4 + 1))] [] s2))))))) : G 3 [some (.inr 99), some (.inl v1), some (.inl v2), some (.inl v3), some (.inl v4)] [] σ := hG 19 3 _ _ _ h
def X0g_edgesToFields : mP := (X0b_edgesToFields, flX0, fdX0, none, [(117, 2, false, X0t_fieldNode), (121, 2, true, X0t_addEdge)], [(3, [true, true, true, true, true])])
theorem X0v_edgesToFields_0 {G : Nat → mL → List mv → mS → Prop} {Q : Option Int32 → mS → Prop} (hG : mCl X0g_edgesToFields G Q) (v1 v2 v3 : Int32) (σ : mS)
    (h : G 3 [some (.inr 99), some (.inl v1), some (.inl v2), some (.inl v3), some (.inl 0)] [] σ) : G 0 [some (.inr 99), some (.inl v1), some (.inl v2), some (.inl v3), none] [] σ := hG 3 0 _ _ _ h
theorem X0v_edgesToFields_3 {G : Nat → mL → List mv → mS → Prop} {Q : Option Int32 → mS → Prop} (hG : mCl X0g_edgesToFields G Q) (v1 v2 v3 v4 : Int32) (σ : mS)
    (h : (((8 : Int32) ≤ v4 → Q none σ) ∧ (¬ (8 : Int32) ≤ v4 → ((¬ ((v1 >>> (v4 &&& 31)) &&& 1) = (1 : Int32) → G 3 [some (.inr 99), some (.inl v1), some (.inl v2), some (.inl v3), some (.inl (v4 + 1))] [] σ) ∧ (((v1 >>> (v4 &&& 31)) &&& 1) = (1 : Int32) → (X0p_fieldNode [v4, v2] σ ∧ ∀ x1 : Int32, X0q_fieldNode [v4, v2] σ x1 → (X0p_addEdge [v3, x1] σ ∧ ∀ s2 : mS, X0q_addEdge [v3, x1] σ s2 → G 3 [some (.inr 99), some (.inl v1), some (.inl v2), some (.inl v3), some (.inl (v4 + 1))] [] s2))))))) : G 3 [some (.inr 99), some (.inl v1), some (.inl v2), some (.inl v3), some (.inl v4)] [] σ := hG 19 3 _ _ _ h
def X0g_leadersOf : mP := (X0b_leadersOf, flX0, fdX0, some .int, [], [(4, [true, true, true, true])])
theorem X0v_leadersOf_0 {G : Nat → mL → List mv → mS → Prop} {Q : Option Int32 → mS → Prop} (hG : mCl X0g_leadersOf G Q) (v1 : Int32) (σ : mS)
    (h : G 4 [some (.inr 99), some (.inl v1), some (.inl 0), some (.inl 0)] [] σ) : G 0 [some (.inr 99), some (.inl v1), none, none] [] σ := hG 5 0 _ _ _ h
theorem X0v_leadersOf_4 {G : Nat → mL → List mv → mS → Prop} {Q : Option Int32 → mS → Prop} (hG : mCl X0g_leadersOf G Q) (v1 v2 v3 : Int32) (σ : mS)
    (h : (((28 : Int32) ≤ v3 → Q (some v2) σ) ∧ (¬ (28 : Int32) ≤ v3 → ((¬ ((v1 >>> (v3 &&& 31)) &&& 1) = (1 : Int32) → G 4 [some (.inr 99), some (.inl v1), some (.inl v2), some (.inl (v3 + 1))] [] σ) ∧ (((v1 >>> (v3 &&& 31)) &&& 1) = (1 : Int32) → (vp_in v3 28 ∧ ∀ x1 : Int32, x1 = σ 0 v3.toNatClampNeg → G 4 [some (.inr 99), some (.inl v1), some (.inl (v2 ||| ((1 : Int32) <<< (x1 &&& 31)))), some (.inl (v3 + 1))] [] σ)))))) : G 4 [some (.inr 99), some (.inl v1), some (.inl v2), some (.inl v3)] [] σ := hG 22 4 _ _ _ h
def X0g_reach : mP := (X0b_reach, flX0, fdX0, some .int, [(124, 1, true, X0t_leadersOf)], [(9, [true, true, true, true, true, false]), (26, [true, true, true, true, true, true])])
theorem X0v_reach_0 {G : Nat → mL → List mv → mS → Prop} {Q : Option Int32 → mS → Prop} (hG : mCl X0g_reach G Q) (v1 : Int32) (σ : mS)
    (h : G 9 [some (.inr 99), some (.inl v1), some (.inl ((1 : Int32) <<< (v1 &&& 31))), some (.inl 0), some (.inl 0), none] [] σ) : G 0 [some (.inr 99), some (.inl v1), none, none, none, none] [] σ := hG 9 0 _ _ _ h
theorem X0v_reach_9 {G : Nat → mL → List mv → mS → Prop} {Q : Option Int32 → mS → Prop} (hG : mCl X0g_reach G Q) (v1 v2 v3 v4 : Int32) (σ : mS)
    (h : (((28 : Int32) ≤ v4 → Q (some v2) σ) ∧ (¬ (28 : Int32) ≤ v4 → ((v2 = v3 → Q (some v2) σ) ∧ (¬ v2 = v3 → G 26 [some (.inr 99), some (.inl v1), some (.inl v2), some (.inl v2), some (.inl v4), some (.inl 0)] [] σ))))) : G 9 [some (.inr 99), some (.inl v1), some (.inl v2), some (.inl v3), some (.inl v4), none] [] σ := hG 11 9 _ _ _ h
theorem X0v_reach_26 {G : Nat → mL → List mv → mS → Prop} {Q : Option Int32 → mS → Prop} (hG : mCl X0g_reach G Q) (v1 v2 v3 v4 v5 : Int32) (σ : mS)
    (h : (((28 : Int32) ≤ v5 → G 9 [some (.inr 99), some (.inl v1), some (.inl v2), some (.inl v3), some (.inl (v4 + 1)), none] [] σ) ∧ (¬ (28 : Int32) ≤ v5 → ((¬ ((v3 >>> (v5 &&& 31)) &&& 1) = (1 : Int32) → G 26 [some (.inr 99), some (.inl v1), some (.inl v2), some (.inl v3), some (.inl v4), some (.inl (v5 + 1))] [] σ) ∧ (((v3 >>> (v5 &&& 31)) &&& 1) = (1 : Int32) → (vp_in v5 28 ∧ ∀ x1 : Int32, x1 = σ 3 v5.toNatClampNeg → (X0p_leadersOf [x1] σ ∧ ∀ x2 : Int32, X0q_leadersOf [x1] σ x2 → G 26 [some (.inr 99), some (.inl v1), some (.inl (v2 ||| x2)), some (.inl v3), some (.inl v4), some (.inl (v5 + 1))] [] σ))))))) : G 26 [some (.inr 99), some (.inl v1), some (.inl v2), some (.inl v3), some (.inl v4), some (.inl v5)] [] σ := hG 22 26 _ _ _ h
def X0g_join : mP := (X0b_join, flX0, fdX0, none, [(83, 1, true, X0t_enqueue)], [(2, [true, true, true, true])])
theorem X0v_join_0 {G : Nat → mL → List mv → mS → Prop} {Q : Option Int32 → mS → Prop} (hG : mCl X0g_join G Q) (v1 v2 : Int32) (σ : mS)
    (h : G 2 [some (.inr 99), some (.inl v1), some (.inl v2), some (.inl 0)] [] σ) : G 0 [some (.inr 99), some (.inl v1), some (.inl v2), none] [] σ := hG 3 0 _ _ _ h
theorem X0v_join_2 {G : Nat → mL → List mv → mS → Prop} {Q : Option Int32 → mS → Prop} (hG : mCl X0g_join G Q) (v1 v2 v3 : Int32) (σ : mS)
    (h : (((28 : Int32) ≤ v3 → (vp_in v1 28 ∧ ∀ x1 : Int32, x1 = σ 1 v1.toNatClampNeg → (vp_in v2 28 ∧ ∀ x2 : Int32, x2 = σ 1 v2.toNatClampNeg → (vp_in v1 28 ∧ (vp_in v1 28 ∧ ∀ x3 : Int32, x3 = σ 3 v1.toNatClampNeg → (vp_in v2 28 ∧ ∀ x4 : Int32, x4 = σ 3 v2.toNatClampNeg → (vp_in v1 28 ∧ (vp_in v1 28 ∧ ∀ x5 : Int32, x5 = (mU σ 1 v1.toNatClampNeg (x1 ||| x2)) 1 v1.toNatClampNeg → (vp_in v1 28 ∧ (X0p_enqueue [v1] (mU (mU (mU σ 1 v1.toNatClampNeg (x1 ||| x2)) 3 v1.toNatClampNeg (x3 ||| x4)) 2 v1.toNatClampNeg x5) ∧ ∀ s6 : mS, X0q_enqueue [v1] (mU (mU (mU σ 1 v1.toNatClampNeg (x1 ||| x2)) 3 v1.toNatClampNeg (x3 ||| x4)) 2 v1.toNatClampNeg x5) s6 → Q none s6)))))))))) ∧ (¬ (28 : Int32) ≤ v3 → (vp_in v3 28 ∧ ∀ x7 : Int32, x7 = σ 0 v3.toNatClampNeg → ((¬ x7 = v2 → G 2 [some (.inr 99), some (.inl v1), some (.inl v2), some (.inl (v3 + 1))] [] σ) ∧ (x7 = v2 → (vp_in v3 28 ∧ G 2 [some (.inr 99), some (.inl v1), some (.inl v2), some (.inl (v3 + 1))] [] (mU σ 0 v3.toNatClampNeg v1)))))))) : G 2 [some (.inr 99), some (.inl v1), some (.inl v2), some (.inl v3)] [] σ := hG 37 2 _ _ _ h
def X0g_tryCircle : mP := (X0b_tryCircle, flX0, fdX0, none, [(128, 1, true, X0t_reach), (131, 2, true, X0t_join)], [(34, [true, true, true, true, true, false])])
theorem X0v_tryCircle_0 {G : Nat → mL → List mv → mS → Prop} {Q : Option Int32 → mS → Prop} (hG : mCl X0g_tryCircle G Q) (v1 v2 : Int32) (σ : mS)
    (h : ((v1 = v2 → Q none σ) ∧ (¬ v1 = v2 → (vp_in v1 28 ∧ ∀ x1 : Int32, x1 = σ 0 v1.toNatClampNeg → ((x1 = v1 → (X0p_reach [v2] σ ∧ ∀ x2 : Int32, X0q_reach [v2] σ x2 → ((¬ ((x2 >>> (v1 &&& 31)) &&& 1) = (0 : Int32) → G 34 [some (.inr 99), some (.inl v1), some (.inl v2), some (.inl x2), some (.inl 0), none] [] σ) ∧ (((x2 >>> (v1 &&& 31)) &&& 1) = (0 : Int32) → Q none σ)))) ∧ (¬ x1 = v1 → Q none σ)))))) : G 0 [some (.inr 99), some (.inl v1), some (.inl v2), none, none, none] [] σ := hG 22 0 _ _ _ h
theorem X0v_tryCircle_34 {G : Nat → mL → List mv → mS → Prop} {Q : Option Int32 → mS → Prop} (hG : mCl X0g_tryCircle G Q) (v1 v2 v3 v4 : Int32) (σ : mS)
    (h : (((28 : Int32) ≤ v4 → Q none σ) ∧ (¬ (28 : Int32) ≤ v4 → ((v4 = v1 → G 34 [some (.inr 99), some (.inl v1), some (.inl v2), some (.inl v3), some (.inl (v4 + 1)), none] [] σ) ∧ (¬ v4 = v1 → (vp_in v4 28 ∧ ∀ x1 : Int32, x1 = σ 0 v4.toNatClampNeg → ((¬ x1 = v4 → G 34 [some (.inr 99), some (.inl v1), some (.inl v2), some (.inl v3), some (.inl (v4 + 1)), none] [] σ) ∧ (x1 = v4 → ((¬ ((v3 >>> (v4 &&& 31)) &&& 1) = (1 : Int32) → G 34 [some (.inr 99), some (.inl v1), some (.inl v2), some (.inl v3), some (.inl (v4 + 1)), none] [] σ) ∧ (((v3 >>> (v4 &&& 31)) &&& 1) = (1 : Int32) → (X0p_reach [v4] σ ∧ ∀ x2 : Int32, X0q_reach [v4] σ x2 → ((¬ ((x2 >>> (v1 &&& 31)) &&& 1) = (1 : Int32) → G 34 [some (.inr 99), some (.inl v1), some (.inl v2), some (.inl v3), some (.inl (v4 + 1)), none] [] σ) ∧ (((x2 >>> (v1 &&& 31)) &&& 1) = (1 : Int32) → (X0p_join [v1, v4] σ ∧ ∀ s3 : mS, X0q_join [v1, v4] σ s3 → G 34 [some (.inr 99), some (.inl v1), some (.inl v2), some (.inl v3), some (.inl (v4 + 1)), none] [] s3)))))))))))))) : G 34 [some (.inr 99), some (.inl v1), some (.inl v2), some (.inl v3), some (.inl v4), none] [] σ := hG 37 34 _ _ _ h
def X0g_pass : mP := (X0b_pass, flX0, fdX0, none, [(104, 3, true, X0t_edgesFromFields), (111, 3, true, X0t_edgesToFields), (91, 2, true, X0t_addSites), (114, 2, true, X0t_tryCircle)], [(16, [true, true, true, true, false, false]), (64, [true, true, true, true, false, false]), (120, [true, true, true, true, true, false])])
theorem X0v_pass_0 {G : Nat → mL → List mv → mS → Prop} {Q : Option Int32 → mS → Prop} (hG : mCl X0g_pass G Q) (v1 : Int32) (σ : mS)
    (h : (vp_in v1 28 ∧ ∀ x1 : Int32, x1 = σ 2 v1.toNatClampNeg → (vp_in v1 28 ∧ G 16 [some (.inr 99), some (.inl v1), some (.inl x1), some (.inl 0), none, none] [] (mU σ 2 v1.toNatClampNeg 0)))) : G 0 [some (.inr 99), some (.inl v1), none, none, none, none] [] σ := hG 13 0 _ _ _ h
theorem X0v_pass_16 {G : Nat → mL → List mv → mS → Prop} {Q : Option Int32 → mS → Prop} (hG : mCl X0g_pass G Q) (v1 v2 v3 : Int32) (σ : mS)
    (h : (((σ 8 0) ≤ v3 → G 64 [some (.inr 99), some (.inl v1), some (.inl v2), some (.inl 0), none, none] [] σ) ∧ (¬ (σ 8 0) ≤ v3 → (vp_in v3 20 ∧ ∀ x1 : Int32, x1 = σ 10 v3.toNatClampNeg → (vp_in x1 28 ∧ ∀ x2 : Int32, x2 = σ 0 x1.toNatClampNeg → ((¬ x2 = v1 → G 16 [some (.inr 99), some (.inl v1), some (.inl v2), some (.inl (v3 + 1)), none, none] [] σ) ∧ (x2 = v1 → (vp_in v3 20 ∧ ∀ x3 : Int32, x3 = σ 11 v3.toNatClampNeg → (vp_in v3 20 ∧ ∀ x4 : Int32, x4 = σ 9 v3.toNatClampNeg → (X0p_edgesFromFields [v2, x3, x4] σ ∧ ∀ s5 : mS, X0q_edgesFromFields [v2, x3, x4] σ s5 → G 16 [some (.inr 99), some (.inl v1), some (.inl v2), some (.inl (v3 + 1)), none, none] [] s5)))))))))) : G 16 [some (.inr 99), some (.inl v1), some (.inl v2), some (.inl v3), none, none] [] σ := hG 27 16 _ _ _ h
theorem X0v_pass_64 {G : Nat → mL → List mv → mS → Prop} {Q : Option Int32 → mS → Prop} (hG : mCl X0g_pass G Q) (v1 v2 v3 : Int32) (σ : mS)
    (h : (((σ 12 0) ≤ v3 → (vp_in v1 28 ∧ ∀ x1 : Int32, x1 = σ 3 v1.toNatClampNeg → G 120 [some (.inr 99), some (.inl v1), some (.inl v2), some (.inl x1), some (.inl 0), none] [] σ)) ∧ (¬ (σ 12 0) ≤ v3 → (vp_in v3 20 ∧ ∀ x2 : Int32, x2 = σ 13 v3.toNatClampNeg → (vp_in x2 28 ∧ ∀ x3 : Int32, x3 = σ 0 x2.toNatClampNeg → ((¬ x3 = v1 → G 64 [some (.inr 99), some (.inl v1), some (.inl v2), some (.inl (v3 + 1)), none, none] [] σ) ∧ (x3 = v1 → (vp_in v3 20 ∧ ∀ x4 : Int32, x4 = σ 14 v3.toNatClampNeg → (vp_in v3 20 ∧ ∀ x5 : Int32, x5 = σ 15 v3.toNatClampNeg → (X0p_edgesToFields [v2, x4, x5] σ ∧ ∀ s6 : mS, X0q_edgesToFields [v2, x4, x5] σ s6 → G 64 [some (.inr 99), some (.inl v1), some (.inl v2), some (.inl (v3 + 1)), none, none] [] s6)))))))))) : G 64 [some (.inr 99), some (.inl v1), some (.inl v2), some (.inl v3), none, none] [] σ := hG 27 64 _ _ _ h
theorem X0v_pass_120 {G : Nat → mL → List mv → mS → Prop} {Q : Option Int32 → mS → Prop} (hG : mCl X0g_pass G Q) (v1 v2 v3 v4 : Int32) (σ : mS)
    (h : (((28 : Int32) ≤ v4 → Q none σ) ∧ (¬ (28 : Int32) ≤ v4 → ((¬ ((v3 >>> (v4 &&& 31)) &&& 1) = (1 : Int32) → G 120 [some (.inr 99), some (.inl v1), some (.inl v2), some (.inl v3), some (.inl (v4 + 1)), none] [] σ) ∧ (((v3 >>> (v4 &&& 31)) &&& 1) = (1 : Int32) → (vp_in v4 28 ∧ ∀ x1 : Int32, x1 = σ 0 v4.toNatClampNeg → (vp_in x1 28 ∧ ∀ x2 : Int32, x2 = σ 1 x1.toNatClampNeg → (X0p_addSites [v4, v2] σ ∧ ∀ s3 : mS, X0q_addSites [v4, v2] σ s3 → (vp_in v1 28 ∧ ∀ x4 : Int32, x4 = s3 1 v1.toNatClampNeg → ((¬ x2 = x4 → G 120 [some (.inr 99), some (.inl v1), some (.inl v2), some (.inl v3), some (.inl (v4 + 1)), none] [] s3) ∧ (x2 = x4 → (vp_in v4 28 ∧ ∀ x5 : Int32, x5 = s3 0 v4.toNatClampNeg → (∃ g6 : (mS → Prop), X0p_tryCircle g6 [v1, x5] s3 ∧ ∀ s7 : mS, X0q_tryCircle g6 [v1, x5] s3 s7 → G 120 [some (.inr 99), some (.inl v1), some (.inl v2), some (.inl v3), some (.inl (v4 + 1)), none] [] s7))))))))))))) : G 120 [some (.inr 99), some (.inl v1), some (.inl v2), some (.inl v3), some (.inl v4), none] [] σ := hG 38 120 _ _ _ h
def X0g_solve : mP := (X0b_solve, flX0, fdX0, none, [(98, 1, true, X0t_pass)], [(2, [true, true, false])])
theorem X0v_solve_0 {G : Nat → mL → List mv → mS → Prop} {Q : Option Int32 → mS → Prop} (hG : mCl X0g_solve G Q) (σ : mS)
    (h : G 2 [some (.inr 99), some (.inl 0), none] [] σ) : G 0 [some (.inr 99), none, none] [] σ := hG 3 0 _ _ _ h
theorem X0v_solve_2 {G : Nat → mL → List mv → mS → Prop} {Q : Option Int32 → mS → Prop} (hG : mCl X0g_solve G Q) (v1 : Int32) (σ : mS)
    (h : (((600 : Int32) ≤ v1 → Q none σ) ∧ (¬ (600 : Int32) ≤ v1 → (((σ 6 0) = (σ 7 0) → Q none σ) ∧ (¬ (σ 6 0) = (σ 7 0) → (vp_in (σ 6 0) 32 ∧ ∀ x1 : Int32, x1 = σ 5 (σ 6 0).toNatClampNeg → (vp_in x1 28 ∧ (vp_in x1 28 ∧ ∀ x2 : Int32, x2 = σ 0 x1.toNatClampNeg → ((¬ x2 = x1 → G 2 [some (.inr 99), some (.inl (v1 + 1)), none] [] (mU (mU σ 6 0 (((σ 6 0) + 1) &&& 31)) 4 x1.toNatClampNeg ((0 : Int32) &&& 1))) ∧ (x2 = x1 → (∃ g3 : (Gam × List Nat), X0p_pass g3 [x1] (mU (mU σ 6 0 (((σ 6 0) + 1) &&& 31)) 4 x1.toNatClampNeg ((0 : Int32) &&& 1)) ∧ ∀ s4 : mS, X0q_pass g3 [x1] (mU (mU σ 6 0 (((σ 6 0) + 1) &&& 31)) 4 x1.toNatClampNeg ((0 : Int32) &&& 1)) s4 → G 2 [some (.inr 99), some (.inl (v1 + 1)), none] [] s4))))))))))) : G 2 [some (.inr 99), some (.inl v1), none] [] σ := hG 39 2 _ _ _ h
end
section
/-! RaceFinder's static and solver methods meet their contracts -/
set_option maxRecDepth 100000
theorem zi_in {x N : Nat} (h : x < N) (hN : N < 2 ^ 31) : vp_in (nI x) N := vp_in_nI h hN
theorem X0d_badVariable (G : Nat → mL → List mv → mS → Prop) (Q : Option Int32 → mS → Prop) (vs : List Int32) (σ : mS) (hG : mCl X0g_badVariable G Q) (h : X0t_badVariable vs σ Q) : (vs.length + 1 ≤ 1 ∨ (false = false ∧ vs.length ≤ 1)) ∧ G 0 (mL0 1 false vs) [] σ := by
  obtain ⟨⟨v, rfl⟩, h⟩ := h
  refine ⟨Or.inr ⟨rfl, Nat.le_refl 1⟩, X0v_badVariable_0 hG v σ ⟨fun c => ⟨Or.inr rfl, h _ fun w e => ?_⟩, fun c => ⟨fun d => ⟨Or.inl rfl, h _ fun w e => ?_⟩, fun d => ⟨Or.inr rfl, h _ fun w e => ?_⟩⟩⟩⟩
  · cases e
    exact Or.inl ⟨rfl, Or.inl c⟩
  · cases e
    exact Or.inr ⟨rfl, zn_ix (by decide) c (fun q => absurd d (Int32.not_lt.mpr q))⟩
  · cases e
    exact Or.inl ⟨rfl, Or.inr (Int32.not_lt.mp d)⟩
theorem X0d_badSite (G : Nat → mL → List mv → mS → Prop) (Q : Option Int32 → mS → Prop) (vs : List Int32) (σ : mS) (hG : mCl X0g_badSite G Q) (h : X0t_badSite vs σ Q) : (vs.length + 1 ≤ 1 ∨ (false = false ∧ vs.length ≤ 1)) ∧ G 0 (mL0 1 false vs) [] σ := by
  obtain ⟨⟨v, rfl⟩, h⟩ := h
  refine ⟨Or.inr ⟨rfl, Nat.le_refl 1⟩, X0v_badSite_0 hG v σ ⟨fun c => ⟨Or.inr rfl, h _ fun w e => ?_⟩, fun c => ⟨fun d => ⟨Or.inl rfl, h _ fun w e => ?_⟩, fun d => ⟨Or.inr rfl, h _ fun w e => ?_⟩⟩⟩⟩
  · cases e
    exact Or.inl ⟨rfl, Or.inl c⟩
  · cases e
    exact Or.inr ⟨rfl, zn_ix (by decide) c (fun q => absurd d (Int32.not_lt.mpr q))⟩
  · cases e
    exact Or.inl ⟨rfl, Or.inr (Int32.not_lt.mp d)⟩
theorem zn_le1 {v : Int32} (h0 : ¬ v < 0) (h : v ≤ 1) : ∃ j, j < 2 ∧ v = nI j := by
  obtain ⟨j, hj, e⟩ := nI_of2 (n := 1) (by decide) h0 h
  exact ⟨j, by omega, e⟩
theorem zn_gt1 {v : Int32} (h : ¬ v ≤ 1) : nI 2 ≤ v := by
  rw [fa_le] at h ⊢
  have e1 : (1 : Int32).toInt = 1 := by decide
  have e2 : (nI 2).toInt = 2 := by decide
  rw [e1] at h
  rw [e2]
  omega
theorem X0d_badField (G : Nat → mL → List mv → mS → Prop) (Q : Option Int32 → mS → Prop) (vs : List Int32) (σ : mS) (hG : mCl X0g_badField G Q) (h : X0t_badField vs σ Q) : (vs.length + 1 ≤ 1 ∨ (false = false ∧ vs.length ≤ 1)) ∧ G 0 (mL0 1 false vs) [] σ := by
  obtain ⟨⟨v, rfl⟩, h⟩ := h
  refine ⟨Or.inr ⟨rfl, Nat.le_refl 1⟩, X0v_badField_0 hG v σ ⟨fun c => ⟨Or.inr rfl, h _ fun w e => ?_⟩, fun c => ⟨fun d => ⟨Or.inl rfl, h _ fun w e => ?_⟩, fun d => ⟨Or.inr rfl, h _ fun w e => ?_⟩⟩⟩⟩
  · cases e
    exact Or.inl ⟨rfl, Or.inl c⟩
  · cases e
    exact Or.inr ⟨rfl, zn_le1 c d⟩
  · cases e
    exact Or.inl ⟨rfl, Or.inr (zn_gt1 d)⟩
theorem zn_fnode (s f : Nat) : (12 + (2 * nI s)) + nI f = nI (fnode s f) := by
  rw [show (12 : Int32) = nI 12 from rfl, show (2 : Int32) = nI 2 from rfl, pk_mul, nI_add, nI_add]
  rfl
theorem X0d_fieldNode (G : Nat → mL → List mv → mS → Prop) (Q : Option Int32 → mS → Prop) (vs : List Int32) (σ : mS) (hG : mCl X0g_fieldNode G Q) (h : X0t_fieldNode vs σ Q) : (vs.length + 1 ≤ 2 ∨ (false = false ∧ vs.length ≤ 2)) ∧ G 0 (mL0 2 false vs) [] σ := by
  obtain ⟨⟨s, f, rfl⟩, h⟩ := h
  refine ⟨Or.inr ⟨rfl, Nat.le_refl 2⟩, X0v_fieldNode_0 hG s f σ (h _ fun s' f' _ _ e => ?_)⟩
  cases e
  exact zn_fnode s' f'
theorem zcnt_step (x : Int32) {n : Nat} (hn : n < 8) (m : Nat) : nI (fb_ct (bt x) n) + ((x >>> (nI n &&& 31)) &&& 1) = nI (fb_ct (bt x) (n + 1)) := by
  rw [zb_get x (by omega), fb_ct_succ]
  cases bt x n
  · show nI _ + nI 0 = _
    rw [nI_add]
    rfl
  · show nI _ + nI 1 = _
    rw [nI_add]
    rfl
theorem X0d_bits (G : Nat → mL → List mv → mS → Prop) (Q : Option Int32 → mS → Prop) (vs : List Int32) (σ : mS) (hG : mCl X0g_bits G Q) (h : X0t_bits vs σ Q) : (vs.length + 1 ≤ 3 ∨ (false = false ∧ vs.length ≤ 3)) ∧ G 0 (mL0 3 false vs) [] σ := by
  obtain ⟨⟨a, rfl⟩, h⟩ := h
  have hq : Q (some (nI (zcnt a))) σ := h _ fun w e => by cases e; rfl
  have key : ∀ k i, i ≤ 8 → 8 ≤ i + k → G 4 [some (.inl a), some (.inl (nI (fb_ct (bt a) i))), some (.inl (nI i))] [] σ := by
    intro k
    induction k with
    | zero =>
      intro i h1 h2
      have e : i = 8 := by omega
      subst e
      exact X0v_bits_4 hG _ _ _ σ ⟨fun _ => hq, fun c => absurd (nI_le (Nat.le_refl 8) (by decide)) c⟩
    | succ k ih =>
      intro i h1 h2
      refine X0v_bits_4 hG _ _ _ σ ⟨fun c => ?_, fun c => ?_⟩
      · have e : i = 8 := by
          rcases Nat.lt_or_ge i 8 with q | q
          · exact absurd c (nI_ge q (by decide))
          · omega
        subst e
        exact hq
      · have hi : i < 8 := by
          rcases Nat.lt_or_ge i 8 with q | q
          · exact q
          · exact absurd (nI_le q (by omega)) c
        rw [zcnt_step a hi 0, nI_1]
        exact ih (i + 1) (by omega) (by omega)
  exact ⟨Or.inl (Nat.le_of_ble_eq_true rfl), X0v_bits_0 hG a σ (key 8 0 (by omega) (by omega))⟩
theorem X0d_enqueue (G : Nat → mL → List mv → mS → Prop) (Q : Option Int32 → mS → Prop) (vs : List Int32) (σ : mS) (hG : mCl X0g_enqueue G Q) (h : X0t_enqueue vs σ Q) : (vs.length + 1 ≤ 2 ∨ (true = false ∧ vs.length ≤ 2)) ∧ G 0 (mL0 2 true vs) [] σ := by
  obtain ⟨⟨x, hx, rfl, t, ht, htl⟩, h⟩ := h
  have hq : Q none (fEnq σ x) := h _ fun y hy e => by cases zn_inj (by omega) (by omega) (List.cons.inj e).1; rfl
  have hx1 := zi_in hx (by decide)
  have hc : (nI x).toNatClampNeg = x := nI_clamp (by omega)
  unfold fEnq at hq
  refine ⟨Or.inl (Nat.le_refl 2), X0v_enqueue_0 hG (nI x) σ ⟨hx1, fun x1 e1 => ⟨fun c => ⟨hx1, by rw [htl]; exact zi_in ht (by decide), ?_⟩, fun c => ?_⟩⟩⟩
  · rw [hc] at e1 ⊢
    rw [if_pos (by rw [← e1]; exact c)] at hq
    exact hq
  · rw [hc] at e1
    rw [if_neg (by rw [← e1]; exact c)] at hq
    exact hq
theorem X0d_addSites (G : Nat → mL → List mv → mS → Prop) (Q : Option Int32 → mS → Prop) (vs : List Int32) (σ : mS) (hG : mCl X0g_addSites G Q) (h : X0t_addSites vs σ Q) : (vs.length + 1 ≤ 5 ∨ (true = false ∧ vs.length ≤ 5)) ∧ G 0 (mL0 5 true vs) [] σ := by
  obtain ⟨⟨x, set, hx, rfl, hW⟩, h⟩ := h
  have hq : Q none (fAdd σ x set) := h _ fun y st hy e => by
    obtain ⟨e1, e2⟩ := List.cons.inj e
    cases zn_inj (by omega) (by omega) e1
    cases e2
    rfl
  have hx1 := zi_in hx (by decide)
  have hc : (nI x).toNatClampNeg = x := nI_clamp (by omega)
  obtain ⟨e0, hl⟩ := hW.1 x hx
  have hl1 := zi_in hl (by decide)
  have hcl : (nI (ld σ x)).toNatClampNeg = ld σ x := nI_clamp (by omega)
  unfold fAdd at hq
  refine ⟨Or.inl (Nat.le_of_ble_eq_true rfl), X0v_addSites_0 hG (nI x) set σ ⟨hx1, fun x1 e1 => ?_⟩⟩
  rw [hc, e0] at e1
  subst e1
  rw [hcl]
  refine ⟨hl1, fun x2 e2 => ⟨fun c => ⟨hl1, fun x3 e3 => ⟨hl1, hl1, fun x4 e4 => ⟨hl1, ⟨ld σ x, hl, rfl, ?_⟩, fun s5 h5 => ?_⟩⟩⟩, fun c => ?_⟩⟩
  · rw [mU_ne (by decide), mU_ne (by decide)]
    exact hW.2
  · subst e2 e3 e4
    rw [if_neg c] at hq
    rw [h5 _ hl rfl]
    exact hq
  · subst e2
    rw [if_pos c] at hq
    exact hq
theorem X0d_addEdge (G : Nat → mL → List mv → mS → Prop) (Q : Option Int32 → mS → Prop) (vs : List Int32) (σ : mS) (hG : mCl X0g_addEdge G Q) (h : X0t_addEdge vs σ Q) : (vs.length + 1 ≤ 5 ∨ (true = false ∧ vs.length ≤ 5)) ∧ G 0 (mL0 5 true vs) [] σ := by
  obtain ⟨⟨x, y, hx, hy, rfl, hW⟩, h⟩ := h
  have hq : Q none (fEdge σ x y) := h _ fun x' y' hx' hy' e => by
    obtain ⟨e1, e2⟩ := List.cons.inj e
    obtain ⟨e2, -⟩ := List.cons.inj e2
    cases zn_inj (by omega) (by omega) e1
    cases zn_inj (by omega) (by omega) e2
    rfl
  have hcx : (nI x).toNatClampNeg = x := nI_clamp (by omega)
  have hcy : (nI y).toNatClampNeg = y := nI_clamp (by omega)
  obtain ⟨ex, hlx⟩ := hW.1 x hx
  obtain ⟨ey, hly⟩ := hW.1 y hy
  have hlx1 := zi_in hlx (show 28 < 2 ^ 31 by decide)
  have hclx : (nI (ld σ x)).toNatClampNeg = ld σ x := nI_clamp (by omega)
  unfold fEdge at hq
  refine ⟨Or.inl (Nat.le_of_ble_eq_true rfl), X0v_addEdge_0 hG (nI x) (nI y) σ ⟨zi_in hx (by decide), fun x1 e1 => ⟨zi_in hy (by decide), fun x2 e2 => ?_⟩⟩⟩
  rw [hcx, ex] at e1
  rw [hcy, ey] at e2
  subst e1 e2
  rw [hclx]
  refine ⟨fun c => ?_, fun c => ⟨hlx1, fun x3 e3 => ⟨fun d => ⟨hlx1, fun x4 e4 => ⟨hlx1, hlx1, fun x5 e5 => ⟨⟨ld σ y, x5, hly, rfl, ?_⟩, fun s6 h6 => ?_⟩⟩⟩, fun d => ?_⟩⟩⟩
  · rw [if_pos (Or.inl (zn_inj (by omega) (by omega) c))] at hq
    exact hq
  · have e : mU σ 3 (ld σ x) (x4 ||| ((1 : Int32) <<< (nI (ld σ y) &&& 31))) 0 = σ 0 := mU_ne (by decide)
    refine ⟨fun z hz => ?_, ?_⟩
    · rw [ld_of0 e, e]
      exact hW.1 z hz
    · rw [mU_ne (by decide)]
      exact hW.2
  · subst e3 e4 e5
    rw [if_neg] at hq
    · rw [h6 _ _ hly rfl]
      exact hq
    · rintro (c2 | c2)
      · exact c (by rw [c2])
      · exact d ((zb_is1 _ (by omega)).mpr c2)
  · subst e3
    rw [if_pos (Or.inr (show gb σ (ld σ x) (ld σ y) = true from (zb_is1 _ (by omega)).mp d))] at hq
    exact hq
theorem X0d_edgesFromFields (G : Nat → mL → List mv → mS → Prop) (Q : Option Int32 → mS → Prop) (vs : List Int32) (σ : mS) (hG : mCl X0g_edgesFromFields G Q) (h : X0t_edgesFromFields vs σ Q) : (vs.length + 1 ≤ 5 ∨ (true = false ∧ vs.length ≤ 5)) ∧ G 0 (mL0 5 true vs) [] σ := by
  obtain ⟨⟨set, f, y, hf, hy, rfl, hW⟩, h⟩ := h
  have hq : Q none (fEF σ set f y 8) := h _ fun s' f' y' hf' hy' e => by
    obtain ⟨e1, e2⟩ := List.cons.inj e
    obtain ⟨e2, e3⟩ := List.cons.inj e2
    obtain ⟨e3, -⟩ := List.cons.inj e3
    cases e1
    cases zn_inj (by omega) (by omega) e2
    cases zn_inj (by omega) (by omega) e3
    rfl
  have key : ∀ k i, i ≤ 8 → 8 ≤ i + k → G 3 [some (.inr 99), some (.inl set), some (.inl (nI f)), some (.inl (nI y)), some (.inl (nI i))] [] (fEF σ set f y i) := by
    intro k
    induction k with
    | zero =>
      intro i h1 h2
      have e : i = 8 := by omega
      subst e
      exact X0v_edgesFromFields_3 hG _ _ _ _ _ ⟨fun _ => hq, fun c => absurd (nI_le (Nat.le_refl 8) (by decide)) c⟩
    | succ k ih =>
      intro i h1 h2
      refine X0v_edgesFromFields_3 hG _ _ _ _ _ ⟨fun c => ?_, fun c => ?_⟩
      · have e : i = 8 := by
          rcases Nat.lt_or_ge i 8 with q | q
          · exact absurd c (nI_ge q (by decide))
          · omega
        subst e
        exact hq
      · have hi : i < 8 := by
          rcases Nat.lt_or_ge i 8 with q | q
          · exact q
          · exact absurd (nI_le q (by omega)) c
        have hn := ih (i + 1) (by omega) (by omega)
        rw [← nI_1] at hn
        refine ⟨fun d => ?_, fun d => ⟨⟨_, _, rfl⟩, fun x1 e1 => ?_⟩⟩
        · have hb : ¬ bt set i = true := fun q => d ((zb_is1 _ (by omega)).mpr q)
          unfold fEF at hn
          rw [if_neg hb] at hn
          exact hn
        · have hb : bt set i = true := (zb_is1 _ (by omega)).mp d
          have e1 := e1 i f hi hf rfl
          subst e1
          refine ⟨⟨fnode i f, y, fnode_lt hi hf, hy, rfl, hW.ef set f y i⟩, fun s2 h2 => ?_⟩
          rw [h2 _ _ (fnode_lt hi hf) hy rfl]
          unfold fEF at hn
          rw [if_pos hb] at hn
          exact hn
  exact ⟨Or.inl (Nat.le_of_ble_eq_true rfl), X0v_edgesFromFields_0 hG _ _ _ σ (key 8 0 (by omega) (by omega))⟩
theorem X0d_edgesToFields (G : Nat → mL → List mv → mS → Prop) (Q : Option Int32 → mS → Prop) (vs : List Int32) (σ : mS) (hG : mCl X0g_edgesToFields G Q) (h : X0t_edgesToFields vs σ Q) : (vs.length + 1 ≤ 5 ∨ (true = false ∧ vs.length ≤ 5)) ∧ G 0 (mL0 5 true vs) [] σ := by
  obtain ⟨⟨set, f, y, hf, hy, rfl, hW⟩, h⟩ := h
  have hq : Q none (fET σ set f y 8) := h _ fun s' f' y' hf' hy' e => by
    obtain ⟨e1, e2⟩ := List.cons.inj e
    obtain ⟨e2, e3⟩ := List.cons.inj e2
    obtain ⟨e3, -⟩ := List.cons.inj e3
    cases e1
    cases zn_inj (by omega) (by omega) e2
    cases zn_inj (by omega) (by omega) e3
    rfl
  have key : ∀ k i, i ≤ 8 → 8 ≤ i + k → G 3 [some (.inr 99), some (.inl set), some (.inl (nI f)), some (.inl (nI y)), some (.inl (nI i))] [] (fET σ set f y i) := by
    intro k
    induction k with
    | zero =>
      intro i h1 h2
      have e : i = 8 := by omega
      subst e
      exact X0v_edgesToFields_3 hG _ _ _ _ _ ⟨fun _ => hq, fun c => absurd (nI_le (Nat.le_refl 8) (by decide)) c⟩
    | succ k ih =>
      intro i h1 h2
      refine X0v_edgesToFields_3 hG _ _ _ _ _ ⟨fun c => ?_, fun c => ?_⟩
      · have e : i = 8 := by
          rcases Nat.lt_or_ge i 8 with q | q
          · exact absurd c (nI_ge q (by decide))
          · omega
        subst e
        exact hq
      · have hi : i < 8 := by
          rcases Nat.lt_or_ge i 8 with q | q
          · exact q
          · exact absurd (nI_le q (by omega)) c
        have hn := ih (i + 1) (by omega) (by omega)
        rw [← nI_1] at hn
        refine ⟨fun d => ?_, fun d => ⟨⟨_, _, rfl⟩, fun x1 e1 => ?_⟩⟩
        · have hb : ¬ bt set i = true := fun q => d ((zb_is1 _ (by omega)).mpr q)
          unfold fET at hn
          rw [if_neg hb] at hn
          exact hn
        · have hb : bt set i = true := (zb_is1 _ (by omega)).mp d
          have e1 := e1 i f hi hf rfl
          subst e1
          refine ⟨⟨y, fnode i f, hy, fnode_lt hi hf, rfl, hW.et set f y i⟩, fun s2 h2 => ?_⟩
          rw [h2 _ _ hy (fnode_lt hi hf) rfl]
          unfold fET at hn
          rw [if_pos hb] at hn
          exact hn
  exact ⟨Or.inl (Nat.le_of_ble_eq_true rfl), X0v_edgesToFields_0 hG _ _ _ σ (key 8 0 (by omega) (by omega))⟩
end
section
/-! the solver's invariant through pass() and solve(), pure; loops that count up -/
set_option maxRecDepth 100000
theorem zup {α : Type} {N : Nat} {H I : Nat → α → Prop} (hend : ∀ a, I N a → H N a) (hstep : ∀ i a, i < N → I i a → (∀ a', I (i + 1) a' → H (i + 1) a') → H i a) : ∀ i a, i ≤ N → I i a → H i a := by
  have key : ∀ k i a, i + k = N → I i a → H i a := by
    intro k
    induction k with
    | zero =>
      intro i a h hI
      have e : i = N := by omega
      subst e
      exact hend a hI
    | succ k ih =>
      intro i a h hI
      exact hstep i a (by omega) hI (fun a' h' => ih (i + 1) a' (by omega) h')
  intro i a hi hI
  exact key (N - i) i a (by omega) hI
theorem Path.sound {Γ : Gam} {σ : mS} {q : List Nat} (hW : WF σ q) (hS : Sound Γ σ) {a b : Nat} (ha : a < 28) (hp : Path σ a b) {S : Nat → Nat → Prop} (hSl : Slv Γ S) : ∀ s, S a s → S b s := by
  obtain ⟨s1, s2, s3⟩ := hS S hSl
  have := hp (fun j => j < 28 ∧ ∀ s, S a s → S j s) ⟨ha, fun s h => h⟩ (fun n m hn hm hR hg => ⟨(hW.1 m hm).2.1, fun s h => (s1 m hm s).mp (s3 n hn m hg s (hR.2 s h))⟩)
  exact this.2
theorem Inv2.doneL {Γs Γ : Gam} {σ : mS} {q : List Nat} {n : Nat} {X : Nat → Prop} {i iS iE : Nat} (hI : Inv2 Γs Γ σ q n X i iS iE) (h : ∀ p, Γ.2.2.1[i]? = some p → ld σ p.2.1 = n → ∀ s, X s → Edge σ (ld σ (fnode s p.2.2)) (ld σ p.1)) : Inv2 Γs Γ σ q n X (i + 1) iS iE := by
  obtain ⟨h1, h2, h3, h4, h5, h6⟩ := hI
  refine ⟨h1, h2, h3, h4, fun j p hp s a b hx => ?_, h6⟩
  rcases Classical.em (ld σ p.2.1 = n ∧ X s) with ⟨e1, e2⟩ | e
  · have hj := hx e1 e2
    rcases Nat.lt_or_ge j i with q | q
    · exact h5 j p hp s a b (fun _ _ => q)
    · have e : j = i := by omega
      subst e
      exact h p hp e1 s e2
  · exact h5 j p hp s a b (fun e1 e2 => absurd ⟨e1, e2⟩ e)
theorem Inv2.doneS {Γs Γ : Gam} {σ : mS} {q : List Nat} {n : Nat} {X : Nat → Prop} {iL i iE : Nat} (hI : Inv2 Γs Γ σ q n X iL i iE) (h : ∀ p, Γ.2.2.2[i]? = some p → ld σ p.1 = n → ∀ s, X s → Edge σ (ld σ p.2.2) (ld σ (fnode s p.2.1))) : Inv2 Γs Γ σ q n X iL (i + 1) iE := by
  obtain ⟨h1, h2, h3, h4, h5, h6⟩ := hI
  refine ⟨h1, h2, h3, h4, h5, fun j p hp s a b hx => ?_⟩
  rcases Classical.em (ld σ p.1 = n ∧ X s) with ⟨e1, e2⟩ | e
  · have hj := hx e1 e2
    rcases Nat.lt_or_ge j i with q | q
    · exact h6 j p hp s a b (fun _ _ => q)
    · have e : j = i := by omega
      subst e
      exact h p hp e1 s e2
  · exact h6 j p hp s a b (fun e1 e2 => absurd ⟨e1, e2⟩ e)
theorem Inv2.doneE {Γs Γ : Gam} {σ : mS} {q : List Nat} {n : Nat} {X : Nat → Prop} {iL iS m : Nat} (hI : Inv2 Γs Γ σ q n X iL iS m) (h : gb σ n m = true → ∀ s, sb σ n s = true → fb σ n s = false → X s → sb σ (ld σ m) s = true) : Inv2 Γs Γ σ q n X iL iS (m + 1) := by
  obtain ⟨h1, h2, h3, h4, h5, h6⟩ := hI
  refine ⟨h1, h2, h3, fun a ha hla j hj hg s hs hf hx => ?_, h5, h6⟩
  rcases Classical.em (a = n ∧ X s) with ⟨e1, e2⟩ | e
  · have hj2 := hx e1 e2
    rcases Nat.lt_or_ge j m with q | q
    · exact h4 a ha hla j hj hg s hs hf (fun _ _ => q)
    · have e : j = m := by omega
      subst e
      subst e1
      exact h hg s hs hf e2
  · exact h4 a ha hla j hj hg s hs hf (fun e1 e2 => absurd ⟨e1, e2⟩ e)
theorem Inv2.fin {Γ : Gam} {σ : mS} {q : List Nat} {n : Nat} {X : Nat → Prop} (hI : Inv Γ σ q n X Γ.2.2.1.length Γ.2.2.2.length 28) : INV Γ σ q := by
  obtain ⟨h1, h2, h3, h4, h5, h6⟩ := hI
  exact ⟨h1, h2, h3, fun a ha hla j hj hg s hs hf _ => h4 a ha hla j hj hg s hs hf (fun _ _ => hj), fun j p hp s a b _ => h5 j p hp s a b (fun _ _ => (List.getElem?_eq_some_iff.mp hp).1), fun j p hp s a b _ => h6 j p hp s a b (fun _ _ => (List.getElem?_eq_some_iff.mp hp).1)⟩
theorem fDeq_k {σ : mS} {n k : Nat} (h4 : k ≠ 4) (h6 : k ≠ 6) : fDeq σ n k = σ k := by
  unfold fDeq
  rw [mU_ne h4, mU_ne h6]
theorem fDeq_pot {σ : mS} {n : Nat} {q : List Nat} : pot (fDeq σ n) q + 1 = pot σ (n :: q) := by
  unfold pot
  rw [fDeq_k (by decide) (by decide), List.length_cons]
  have : (fun m => decide (ld (fDeq σ n) m = m)) = fun m => decide (ld σ m = m) := funext fun m => by rw [ld_of0 (fDeq_k (by decide) (by decide))]
  rw [this]
  omega
theorem pot_f {σ : mS} {x : Nat} {v : Int32} {q : List Nat} : pot (mU σ 2 x v) q = pot σ q := by
  unfold pot
  rw [mU_ne (by decide)]
  have : (fun m => decide (ld (mU σ 2 x v) m = m)) = fun m => decide (ld σ m = m) := funext fun m => by rw [ld_of0 (mU_ne (by decide))]
  rw [this]
theorem Inv.same {Γ : Gam} {σ τ : mS} {q' : List Nat} {n : Nat} {X : Nat → Prop} {iL iS iE : Nat} (h0 : τ 0 = σ 0) (h1 : τ 1 = σ 1) (h3 : τ 3 = σ 3) (hI : Sound Γ σ ∧ Cov Γ σ) (hW : WF τ q') (hC : Clo Γ τ n X iL iS iE) : Inv Γ τ q' n X iL iS iE := by
  have hl := fun x => ld_of0 h0 x
  have hs : ∀ m s, sb τ m s = sb σ m s := fun m s => by unfold sb; rw [h1]
  have hg : ∀ m s, gb τ m s = gb σ m s := fun m s => by unfold gb; rw [h3]
  refine ⟨hW, fun S hSl => ?_, ⟨fun v s h => ?_, fun v w h => ?_⟩, hC⟩
  · obtain ⟨s1, s2, s3⟩ := hI.1 S hSl
    exact ⟨fun x hx s => by rw [hl]; exact s1 x hx s, fun m hm s h => by rw [hs] at h; exact s2 m hm s h, fun m hm k h => by rw [hg] at h; exact s3 m hm k h⟩
  · rw [hl, hs]
    exact hI.2.1 v s h
  · have := hI.2.2 v w h
    unfold Edge
    rw [hl, hl]
    rcases this with e | ⟨m, a, b, c⟩
    · exact Or.inl e
    · exact Or.inr ⟨m, a, by rw [hg]; exact b, by rw [hl]; exact c⟩
theorem Edge.same {σ τ : mS} (h0 : τ 0 = σ 0) (h3 : τ 3 = σ 3) {a b : Nat} (h : Edge σ a b) : Edge τ a b := by
  rcases h with e | ⟨m, x, y, z⟩
  · exact Or.inl e
  · refine Or.inr ⟨m, x, ?_, by rw [ld_of0 h0]; exact z⟩
    unfold gb at y ⊢
    rw [h3]
    exact y
/-- a node that isn't a leader is taken off the queue -/
theorem Inv.skip {Γ : Gam} {σ : mS} {n : Nat} {q : List Nat} (hI : INV Γ σ (n :: q)) (hn : ld σ n ≠ n) : INV Γ (fDeq σ n) q := by
  obtain ⟨⟨w1, w2, w3, w4, w5, w6⟩, hS, hC, hK⟩ := hI
  have h0 : fDeq σ n 0 = σ 0 := fDeq_k (by decide) (by decide)
  have h1 : fDeq σ n 1 = σ 1 := fDeq_k (by decide) (by decide)
  have h2 : fDeq σ n 2 = σ 2 := fDeq_k (by decide) (by decide)
  have h3 : fDeq σ n 3 = σ 3 := fDeq_k (by decide) (by decide)
  have hl := fun x => ld_of0 h0 x
  have hs : ∀ m s, sb (fDeq σ n) m s = sb σ m s := fun m s => by unfold sb; rw [h1]
  have hf : ∀ m s, fb (fDeq σ n) m s = fb σ m s := fun m s => by unfold fb; rw [h2]
  have hg : ∀ m s, gb (fDeq σ n) m s = gb σ m s := fun m s => by unfold gb; rw [h3]
  refine Inv.same h0 h1 h3 ⟨hS, hC⟩ ⟨fun x hx => ?_, fun m hm s h => ?_, fun m hm s h => ?_, fun m hm s h => ?_, (w5.deq).2.2, fun m hm hlm s h => ?_⟩ ⟨fun a ha hla j hj hga s hsa hfa hx => ?_, fun i p hp s a b hx => ?_, fun i p hp s a b hx => ?_⟩
  · rw [hl, hl, h0]; exact w1 x hx
  · rw [hs] at h; exact w2 m hm s h
  · rw [hg] at h; exact w3 m hm s h
  · rw [hf] at h; rw [hs]; exact w4 m hm s h
  · rw [hl] at hlm
    rw [hf] at h
    rcases List.mem_cons.mp (w6 m hm hlm s h) with e | e
    · rw [e] at hlm
      exact absurd hlm hn
    · exact e
  · rw [hl] at hla ⊢
    rw [hg] at hga
    rw [hs] at hsa ⊢
    rw [hf] at hfa
    exact hK.1 a ha hla j hj hga s hsa hfa hx
  · rw [hl, hs] at a
    rw [hl, hf] at b
    rw [hl, hl]
    exact Edge.same h0 h3 (hK.2.1 i p hp s a b (fun _ h => h.elim))
  · rw [hl, hs] at a
    rw [hl, hf] at b
    rw [hl, hl]
    exact Edge.same h0 h3 (hK.2.2 i p hp s a b (fun _ h => h.elim))
/-- a leader is taken off the queue, and its fresh sites are cleared -/
theorem Inv.start {Γ : Gam} {σ : mS} {n : Nat} {q : List Nat} (hI : INV Γ σ (n :: q)) : Inv Γ (mU (fDeq σ n) 2 n 0) q n (fun s => bt (fDeq σ n 2 n) s = true) 0 0 0 := by
  obtain ⟨⟨w1, w2, w3, w4, w5, w6⟩, hS, hC, hK⟩ := hI
  obtain ⟨hn, -, hQ⟩ := w5.deq
  have h0 : mU (fDeq σ n) 2 n 0 0 = σ 0 := by rw [mU_ne (by decide), fDeq_k (by decide) (by decide)]
  have h1 : mU (fDeq σ n) 2 n 0 1 = σ 1 := by rw [mU_ne (by decide), fDeq_k (by decide) (by decide)]
  have h2 : fDeq σ n 2 = σ 2 := fDeq_k (by decide) (by decide)
  have h3 : mU (fDeq σ n) 2 n 0 3 = σ 3 := by rw [mU_ne (by decide), fDeq_k (by decide) (by decide)]
  have hl := fun x => ld_of0 h0 x
  have hs : ∀ m s, sb (mU (fDeq σ n) 2 n 0) m s = sb σ m s := fun m s => by unfold sb; rw [h1]
  have hf : ∀ m s, fb (mU (fDeq σ n) 2 n 0) m s = if m = n then false else fb σ m s := fun m s => by
    unfold fb
    by_cases e : m = n
    · rw [if_pos e, e, mU_s, b_0]
    · rw [if_neg e, mU_o (Or.inr e), h2]
  have hg : ∀ m s, gb (mU (fDeq σ n) 2 n 0) m s = gb σ m s := fun m s => by unfold gb; rw [h3]
  have hX : ∀ s, bt (fDeq σ n 2 n) s = fb σ n s := fun s => by rw [h2]; rfl
  have hQ' : QR (mU (fDeq σ n) 2 n 0) q := by
    obtain ⟨q1, q2, q3, hd, hd1, hd2, hd3, hd4⟩ := hQ
    exact ⟨q1, q2, fun m hm => by rw [mU_ne (by decide)]; exact q3 m hm, hd, hd1, by rw [mU_ne (by decide)]; exact hd2, by rw [mU_ne (by decide)]; exact hd3, fun i m hi => by rw [mU_ne (by decide)]; exact hd4 i m hi⟩
  have hcase : ∀ m s, fb (mU (fDeq σ n) 2 n 0) m s = false → (m = n → bt (fDeq σ n 2 n) s = true → False) → fb σ m s = false := by
    intro m s h hx
    rw [hf] at h
    by_cases e : m = n
    · cases hb : fb σ m s
      · rfl
      · exact (hx e (by rw [hX, ← e]; exact hb)).elim
    · rw [if_neg e] at h
      exact h
  refine Inv.same h0 h1 h3 ⟨hS, hC⟩ ⟨fun x hx => ?_, fun m hm s h => ?_, fun m hm s h => ?_, fun m hm s h => ?_, hQ', fun m hm hlm s h => ?_⟩ ⟨fun a ha hla j hj hga s hsa hfa hx => ?_, fun i p hp s a b hx => ?_, fun i p hp s a b hx => ?_⟩
  · rw [hl, hl, h0]; exact w1 x hx
  · rw [hs] at h; exact w2 m hm s h
  · rw [hg] at h; exact w3 m hm s h
  · rw [hf] at h
    rw [hs]
    by_cases e : m = n
    · rw [if_pos e] at h; cases h
    · rw [if_neg e] at h
      exact w4 m hm s h
  · rw [hl] at hlm
    rw [hf] at h
    by_cases e : m = n
    · rw [if_pos e] at h; cases h
    · rw [if_neg e] at h
      rcases List.mem_cons.mp (w6 m hm hlm s h) with e2 | e2
      · exact absurd e2 e
      · exact e2
  · rw [hl] at hla ⊢
    rw [hg] at hga
    rw [hs] at hsa ⊢
    exact hK.1 a ha hla j hj hga s hsa (hcase a s hfa (fun e1 e2 => absurd (hx e1 e2) (Nat.not_lt_zero j))) (fun _ h => h.elim)
  · rw [hl, hs] at a
    rw [hl] at b hx
    rw [hl, hl]
    exact Edge.same h0 h3 (hK.2.1 i p hp s a (hcase _ s b (fun e1 e2 => absurd (hx e1 e2) (Nat.not_lt_zero i))) (fun _ h => h.elim))
  · rw [hl, hs] at a
    rw [hl] at b hx
    rw [hl, hl]
    exact Edge.same h0 h3 (hK.2.2 i p hp s a (hcase _ s b (fun e1 e2 => absurd (hx e1 e2) (Nat.not_lt_zero i))) (fun _ h => h.elim))
end
section
/-! leadersOf, reach, join, tryCircle, pass, solve meet their contracts -/
set_option maxRecDepth 100000
theorem zge {i N : Nat} (hi : i < N) (hN : N < 2 ^ 31) {A : Prop} (h : nI N ≤ nI i) : A := absurd h (nI_ge hi hN)
theorem zle {N : Nat} (hN : N < 2 ^ 31) {A : Prop} (h : ¬ nI N ≤ nI N) : A := absurd (nI_le (Nat.le_refl N) hN) h
theorem X0d_leadersOf (G : Nat → mL → List mv → mS → Prop) (Q : Option Int32 → mS → Prop) (vs : List Int32) (σ : mS) (hG : mCl X0g_leadersOf G Q) (h : X0t_leadersOf vs σ Q) : (vs.length + 1 ≤ 4 ∨ (true = false ∧ vs.length ≤ 4)) ∧ G 0 (mL0 4 true vs) [] σ := by
  obtain ⟨⟨a, rfl, hW⟩, h⟩ := h
  have key := zup (α := Int32) (N := 28) (H := fun i st => G 4 [some (.inr 99), some (.inl a), some (.inl st), some (.inl (nI i))] [] σ) (I := fun _ st => ∀ j, bt st j = true → ∃ m, m < 28 ∧ bt a m = true ∧ ld σ m = j)
    (fun st hst => X0v_leadersOf_4 hG _ _ _ σ ⟨fun _ => h _ fun a' e j hj => by cases e; exact hst j hj, fun c => zle (by decide) c⟩)
    (fun i st hi hst hn => by
      refine X0v_leadersOf_4 hG _ _ _ σ ⟨fun c => zge hi (by decide) c, fun _ => ⟨fun d => ?_, fun d => ⟨zi_in hi (by decide), fun x1 e1 => ?_⟩⟩⟩
      · have := hn st hst
        rw [← nI_1] at this
        exact this
      · have hb : bt a i = true := (zb_is1 _ (by omega)).mp d
        obtain ⟨e2, hl⟩ := hW.1 i hi
        rw [nI_clamp (by omega), e2] at e1
        subst e1
        have := hn (st ||| ((1 : Int32) <<< (nI (ld σ i) &&& 31))) (fun j hj => by
          have h32 := zb_lt hj
          rw [b_or, zb_one (by omega) h32, Bool.or_eq_true] at hj
          rcases hj with hj | hj
          · exact hst j hj
          · exact ⟨i, hi, hb, (of_decide_eq_true hj).symm⟩)
        rw [← nI_1] at this
        exact this)
  exact ⟨Or.inl (Nat.le_of_ble_eq_true rfl), X0v_leadersOf_0 hG _ σ (key 0 0 (by omega) (fun j hj => by rw [b_0] at hj; cases hj))⟩
theorem X0d_reach (G : Nat → mL → List mv → mS → Prop) (Q : Option Int32 → mS → Prop) (vs : List Int32) (σ : mS) (hG : mCl X0g_reach G Q) (h : X0t_reach vs σ Q) : (vs.length + 1 ≤ 6 ∨ (true = false ∧ vs.length ≤ 6)) ∧ G 0 (mL0 6 true vs) [] σ := by
  obtain ⟨⟨x, hx, rfl, hW⟩, h⟩ := h
  have hq : ∀ st, (∀ j, bt st j = true → j < 28 ∧ Path σ x j) → Q (some st) σ := fun st hst => h _ fun y hy e => by
    cases zn_inj (by omega) (by omega) (List.cons.inj e).1
    exact hst
  have key := zup (α := Int32 × Int32) (N := 28) (H := fun i st => G 9 [some (.inr 99), some (.inl (nI x)), some (.inl st.1), some (.inl st.2), some (.inl (nI i)), none] [] σ) (I := fun _ st => ∀ j, bt st.1 j = true → j < 28 ∧ Path σ x j)
    (fun st hst => X0v_reach_9 hG _ _ _ _ σ ⟨fun _ => hq _ hst, fun c => zle (by decide) c⟩)
    (fun i st hi hst hn => by
      refine X0v_reach_9 hG _ _ _ _ σ ⟨fun c => zge hi (by decide) c, fun _ => ⟨fun _ => hq _ hst, fun _ => ?_⟩⟩
      have inner := zup (α := Int32) (N := 28) (H := fun n s2 => G 26 [some (.inr 99), some (.inl (nI x)), some (.inl s2), some (.inl st.1), some (.inl (nI i)), some (.inl (nI n))] [] σ) (I := fun _ s2 => ∀ j, bt s2 j = true → j < 28 ∧ Path σ x j)
        (fun s2 hs2 => X0v_reach_26 hG _ _ _ _ _ σ ⟨fun _ => by
          have := hn (s2, st.1) hs2
          rw [← nI_1] at this
          exact this, fun c => zle (by decide) c⟩)
        (fun n s2 hn2 hs2 hnx => by
          refine X0v_reach_26 hG _ _ _ _ _ σ ⟨fun c => zge hn2 (by decide) c, fun _ => ⟨fun _ => ?_, fun d => ⟨zi_in hn2 (by decide), fun x1 e1 => ⟨⟨x1, rfl, hW⟩, fun x2 h2 => ?_⟩⟩⟩⟩
          · have := hnx s2 hs2
            rw [← nI_1] at this
            exact this
          · have hb : bt st.1 n = true := (zb_is1 _ (by omega)).mp d
            rw [nI_clamp (by omega)] at e1
            have := hnx (s2 ||| x2) (fun j hj => by
              rw [b_or, Bool.or_eq_true] at hj
              rcases hj with hj | hj
              · exact hs2 j hj
              · obtain ⟨m, hm, hbm, hl⟩ := h2 x1 rfl j hj
                rw [← hl]
                refine ⟨(hW.1 m hm).2, fun R hR hc => hc n m hn2 hm ((hst n hb).2 R hR hc) ?_⟩
                rw [e1] at hbm
                exact hbm)
            rw [← nI_1] at this
            exact this)
      exact inner 0 st.1 (by omega) hst)
  refine ⟨Or.inl (Nat.le_of_ble_eq_true rfl), X0v_reach_0 hG _ σ (key 0 (_, 0) (by omega) (fun j hj => ?_))⟩
  have h32 := zb_lt hj
  have hj : bt ((1 : Int32) <<< (nI x &&& 31)) j = true := hj
  rw [zb_one (by omega) h32] at hj
  have e := of_decide_eq_true hj
  subst e
  exact ⟨hx, fun R hR _ => hR⟩
def fJ (σ : mS) (x k i : Nat) : mS := fun j => if j = 0 then (fun t => if t < i ∧ σ 0 t = nI k then nI x else σ 0 t) else σ j
theorem fJ_at0 (σ : mS) (x k i t : Nat) : fJ σ x k i 0 t = if t < i ∧ σ 0 t = nI k then nI x else σ 0 t := rfl
theorem fJ_step {σ : mS} {x k i t : Nat} (h : ¬ (t = i ∧ σ 0 t = nI k)) : fJ σ x k (i + 1) 0 t = fJ σ x k i 0 t := by
  rw [fJ_at0, fJ_at0]
  by_cases hk : σ 0 t = nI k
  · have hne : t ≠ i := fun e => h ⟨e, hk⟩
    by_cases h2 : t < i
    · rw [if_pos ⟨by omega, hk⟩, if_pos ⟨h2, hk⟩]
    · rw [if_neg (fun q => h2 (by omega)), if_neg (fun q => h2 q.1)]
  · rw [if_neg (fun q => hk q.2), if_neg (fun q => hk q.2)]
theorem fJ_skip {σ : mS} {x k i : Nat} (d : ¬ σ 0 i = nI k) : fJ σ x k (i + 1) = fJ σ x k i := by
  funext j t
  by_cases e0 : j = 0
  · subst e0
    exact fJ_step (fun q => d (q.1 ▸ q.2))
  · unfold fJ
    rw [if_neg e0, if_neg e0]
theorem fJ_put {σ : mS} {x k i : Nat} (d : σ 0 i = nI k) : fJ σ x k (i + 1) = mU (fJ σ x k i) 0 i (nI x) := by
  funext j t
  rw [mU_at]
  by_cases e0 : j = 0
  · subst e0
    by_cases e1 : t = i
    · subst e1
      rw [if_pos ⟨rfl, rfl⟩, fJ_at0, if_pos ⟨by omega, d⟩]
    · rw [if_neg (fun q => e1 q.2)]
      exact fJ_step (fun q => e1 q.1)
  · rw [if_neg (fun q => e0 q.1)]
    unfold fJ
    rw [if_neg e0, if_neg e0]
theorem fJ_0 (σ : mS) (x k : Nat) : fJ σ x k 0 = σ := by
  funext j t
  by_cases e0 : j = 0
  · subst e0
    rw [fJ_at0, if_neg (fun q => absurd q.1 (Nat.not_lt_zero t))]
  · unfold fJ
    rw [if_neg e0]
theorem X0d_join (G : Nat → mL → List mv → mS → Prop) (Q : Option Int32 → mS → Prop) (vs : List Int32) (σ : mS) (hG : mCl X0g_join G Q) (h : X0t_join vs σ Q) : (vs.length + 1 ≤ 4 ∨ (true = false ∧ vs.length ≤ 4)) ∧ G 0 (mL0 4 true vs) [] σ := by
  obtain ⟨⟨x, k, hx, hk, rfl, hW⟩, h⟩ := h
  have hq : Q none (fJoin σ x k) := h _ fun x' k' hx' hk' e => by
    obtain ⟨e1, e2⟩ := List.cons.inj e
    obtain ⟨e2, -⟩ := List.cons.inj e2
    cases zn_inj (by omega) (by omega) e1
    cases zn_inj (by omega) (by omega) e2
    rfl
  have hcx : (nI x).toNatClampNeg = x := nI_clamp (by omega)
  have hck : (nI k).toNatClampNeg = k := nI_clamp (by omega)
  have hx1 := zi_in hx (show 28 < 2 ^ 31 by decide)
  have hk1 := zi_in hk (show 28 < 2 ^ 31 by decide)
  have key := zup (α := Unit) (N := 28) (H := fun i _ => G 2 [some (.inr 99), some (.inl (nI x)), some (.inl (nI k)), some (.inl (nI i))] [] (fJ σ x k i)) (I := fun _ _ => True)
    (fun _ _ => by
      refine X0v_join_2 hG _ _ _ _ ⟨fun _ => ?_, fun c => zle (by decide) c⟩
      rw [hcx, hck]
      refine ⟨hx1, fun x1 e1 => ⟨hk1, fun x2 e2 => ⟨hx1, hx1, fun x3 e3 => ⟨hk1, fun x4 e4 => ⟨hx1, hx1, fun x5 e5 => ⟨hx1, ⟨x, hx, rfl, hW.2⟩, fun s6 h6 => ?_⟩⟩⟩⟩⟩⟩
      rw [mU_s] at e5
      rw [h6 x hx rfl, e5, e1, e2, e3, e4]
      exact hq)
    (fun i _ hi _ hn => by
      refine X0v_join_2 hG _ _ _ _ ⟨fun c => zge hi (by decide) c, fun _ => ⟨zi_in hi (by decide), fun x7 e7 => ?_⟩⟩
      have hn := hn () trivial
      rw [← nI_1] at hn
      rw [nI_clamp (by omega)] at e7 ⊢
      have e8 : fJ σ x k i 0 i = σ 0 i := by
        show (if i < i ∧ σ 0 i = nI k then nI x else σ 0 i) = _
        rw [if_neg (fun q => Nat.lt_irrefl i q.1)]
      rw [e8] at e7
      subst e7
      refine ⟨fun d => ?_, fun d => ⟨zi_in hi (by decide), ?_⟩⟩
      · rw [fJ_skip d] at hn
        exact hn
      · rw [fJ_put d] at hn
        exact hn)
  have k0 := key 0 () (by omega) trivial
  have k0 : G 2 [some (.inr 99), some (.inl (nI x)), some (.inl (nI k)), some (.inl (nI 0))] [] (fJ σ x k 0) := k0
  rw [fJ_0] at k0
  exact ⟨Or.inl (Nat.le_of_ble_eq_true rfl), X0v_join_0 hG _ _ σ k0⟩
theorem X0d_tryCircle (G : Nat → mL → List mv → mS → Prop) (Q : Option Int32 → mS → Prop) (vs : List Int32) (σ : mS) (hG : mCl X0g_tryCircle G Q) (h : X0t_tryCircle vs σ Q) : (vs.length + 1 ≤ 6 ∨ (true = false ∧ vs.length ≤ 6)) ∧ G 0 (mL0 6 true vs) [] σ := by
  obtain ⟨I, ⟨x, y, hx, hy, rfl, hI, hIW, hIJ⟩, hq⟩ := h
  have hq : ∀ τ, I τ → Q none τ := fun τ h => hq τ h
  have hcx : (nI x).toNatClampNeg = x := nI_clamp (by omega)
  refine ⟨Or.inl (Nat.le_of_ble_eq_true rfl), X0v_tryCircle_0 hG _ _ σ ⟨fun _ => hq σ hI, fun _ => ⟨zi_in hx (by decide), fun x1 e1 => ⟨fun _ => ⟨⟨y, hy, rfl, hIW σ hI⟩, fun x2 h2 => ⟨fun _ => ?_, fun _ => hq σ hI⟩⟩, fun _ => hq σ hI⟩⟩⟩⟩
  have hah := h2 y hy rfl
  have key := zup (α := mS) (N := 28) (H := fun i τ => G 34 [some (.inr 99), some (.inl (nI x)), some (.inl (nI y)), some (.inl x2), some (.inl (nI i)), none] [] τ) (I := fun _ τ => I τ)
    (fun τ hτ => X0v_tryCircle_34 hG _ _ _ _ τ ⟨fun _ => hq τ hτ, fun c => zle (by decide) c⟩)
    (fun i τ hi hτ hn => by
      have hsame := hn τ hτ
      rw [← nI_1] at hsame
      have hW := hIW τ hτ
      refine X0v_tryCircle_34 hG _ _ _ _ τ ⟨fun c => zge hi (by decide) c, fun _ => ⟨fun _ => hsame, fun c1 => ⟨zi_in hi (by decide), fun x1 e1 => ⟨fun _ => hsame, fun c2 => ⟨fun _ => hsame, fun c3 => ⟨⟨i, hi, rfl, hW⟩, fun x3 h3 => ⟨fun _ => hsame, fun c4 => ⟨⟨x, i, hx, hi, rfl, hW⟩, fun s3 hs3 => ?_⟩⟩⟩⟩⟩⟩⟩⟩
      rw [hs3 x i hx hi rfl]
      rw [nI_clamp (by omega), (hW.1 i hi).1] at e1
      have hli := (hW.1 i hi).2
      have hld : ld τ i = i := by
        rw [e1] at c2
        exact zn_inj (by omega) (by omega) c2
      have hp1 : Path σ y i := (hah i ((zb_is1 _ (by omega)).mp c3)).2
      have hp2 : Path τ i x := (h3 i hi rfl x ((zb_is1 _ (by omega)).mp c4)).2
      have := hn (fJoin τ x i) (hIJ τ i hτ hi (fun e => c1 (by rw [e])) hld hp1 hp2)
      rw [← nI_1] at this
      exact this)
  exact key 0 σ (by omega) hI
end
section
/-! pass and solve meet their contracts -/
set_option maxRecDepth 100000
/-- what holds all through pass(x): 'set' was fresh, P0 is the measure at the start -/
def PC (Γ : Gam) (σ : mS) (x P0 : Nat) (set : Int32) (τ : mS) (q : List Nat) (iL iS iE : Nat) : Prop := Inv Γ τ q x (fun s => bt set s = true) iL iS iE ∧ pot τ q ≤ P0 ∧ Fr σ τ ∧ ld τ x = x ∧ ∀ s, bt set s = true → sb τ x s = true
theorem PC.next {Γ : Gam} {σ : mS} {x P0 : Nat} {set : Int32} {τ υ : mS} {q q' : List Nat} {iL iS iE iL' iS' iE' : Nat} (h : PC Γ σ x P0 set τ q iL iS iE) (hI : Inv Γ υ q' x (fun s => bt set s = true) iL' iS' iE') (hp : pot υ q' ≤ pot τ q) (hG : Gr τ υ) : PC Γ σ x P0 set υ q' iL' iS' iE' :=
  ⟨hI, Nat.le_trans hp h.2.1, h.2.2.1.tr hG.2.2.2, by rw [ld_of0 hG.1]; exact h.2.2.2.1, fun s hs => hG.2.1 _ _ (h.2.2.2.2 s hs)⟩
theorem X0d_pass (G : Nat → mL → List mv → mS → Prop) (Q : Option Int32 → mS → Prop) (vs : List Int32) (σ : mS) (hG : mCl X0g_pass G Q) (h : X0t_pass vs σ Q) : (vs.length + 1 ≤ 6 ∨ (true = false ∧ vs.length ≤ 6)) ∧ G 0 (mL0 6 true vs) [] σ := by
  obtain ⟨⟨Γ, q0⟩, ⟨x, hx, rfl, hGB, hlx, hLR, hI0, hXs⟩, hq⟩ := h
  dsimp only at hGB hLR hI0
  have hq : ∀ τ q', INV Γ τ q' → pot τ q' ≤ pot σ q0 → Fr σ τ → Q none τ := fun τ q' h1 h2 h3 => hq τ ⟨q', h1, h2, h3⟩
  have hcx : (nI x).toNatClampNeg = x := nI_clamp (by omega)
  have hx1 := zi_in hx (show 28 < 2 ^ 31 by decide)
  generalize hset : σ 2 x = set at hI0 hXs
  have key120 : ∀ τ q, PC Γ σ x (pot σ q0) set τ q Γ.2.2.1.length Γ.2.2.2.length 0 → G 120 [some (.inr 99), some (.inl (nI x)), some (.inl set), some (.inl (τ 3 x)), some (.inl (nI 0)), none] [] τ := by
    intro τ q hτ
    generalize hT : τ 3 x = T
    have hST : ∀ j, j < 28 → bt T j = true → ∀ S, Slv Γ S → ∀ s, S x s → S j s := fun j hj hb S hS s hs => (hτ.1.2.1 S hS).2.2 x hx j (by unfold gb; rw [hT]; exact hb) s hs
    have key := zup (α := mS) (N := 28) (H := fun i υ => G 120 [some (.inr 99), some (.inl (nI x)), some (.inl set), some (.inl T), some (.inl (nI i)), none] [] υ)
      (I := fun i υ => ∃ q, PC Γ σ x (pot σ q0) set υ q Γ.2.2.1.length Γ.2.2.2.length i ∧ ∀ j, gb υ x j = true → bt T j = true ∨ ∀ s, sb υ x s = true → fb υ x s = true)
      (fun υ ⟨q, h1, h2⟩ => X0v_pass_120 hG _ _ _ _ υ ⟨fun _ => hq υ q h1.1.fin h1.2.1 h1.2.2.1, fun c => zle (by decide) c⟩)
      (fun m υ hm ⟨q, h1, h2⟩ hn => by
        have hW := h1.1.1
        have hWb := hW.wb
        refine X0v_pass_120 hG _ _ _ _ υ ⟨fun c => zge hm (by decide) c, fun _ => ⟨fun d => ?_, fun d => ⟨zi_in hm (by decide), fun x1 e1 => ?_⟩⟩⟩
        · have hb : ¬ bt T m = true := fun q => d ((zb_is1 _ (by omega)).mpr q)
          have := hn υ ⟨q, ⟨h1.1.doneE (fun hg s hs hf _ => ?_), h1.2⟩, h2⟩
          · rw [← nI_1] at this
            exact this
          · rcases h2 m hg with z | z
            · exact absurd z hb
            · rw [z s hs] at hf
              cases hf
        · have hb : bt T m = true := (zb_is1 _ (by omega)).mp d
          rw [nI_clamp (by omega), (hWb.1 m hm).1] at e1
          subst e1
          have hlm := (hWb.1 m hm).2
          refine ⟨zi_in hlm (by decide), fun x2 e2 => ⟨⟨m, set, hm, rfl, hWb⟩, fun s3 h3 => ⟨hx1, fun x4 e4 => ?_⟩⟩⟩
          have h3 := h3 m set hm rfl
          have h8 : ∀ s, bt set s = true → s < 8 := fun s hs => hW.2.1 x hx s (h1.2.2.2.2 s hs)
          obtain ⟨q', g1, g2, g3, g4, g5⟩ := h1.1.add hm h8 (fun S hS s hs => hST m hm hb S hS s ((h1.1.2.1 S hS).2.1 x hx s (h1.2.2.2.2 s hs)))
          have hR := fAdd_R υ m set
          rw [← h3] at g1 g3 g4 g5 hR
          have hP3 : PC Γ σ x (pot σ q0) set s3 q' Γ.2.2.1.length Γ.2.2.2.length (m + 1) := by
            refine h1.next (g1.doneE (fun _ s _ _ hs => ?_)) g3 g4
            rw [ld_of0 g4.1]
            exact g5 s hs
          have hT3 : ∀ j, gb s3 x j = true → bt T j = true ∨ ∀ s, sb s3 x s = true → fb s3 x s = true := by
            intro j hj
            have hj2 : gb υ x j = true := by
              unfold gb at hj ⊢
              rw [hR.2.1] at hj
              exact hj
            rcases h2 j hj2 with z | z
            · exact Or.inl z
            · refine Or.inr fun s hs => ?_
              cases hf : fb s3 x s
              · obtain ⟨o1, o2⟩ := hR.old x s hs hf
                rw [z s o1] at o2
                cases o2
              · rfl
          refine ⟨fun _ => ?_, fun _ => ⟨zi_in hm (by decide), fun x5 e5 => ?_⟩⟩
          · have := hn s3 ⟨q', hP3, hT3⟩
            rw [← nI_1] at this
            exact this
          · rw [nI_clamp (by omega), (hP3.1.1.wb.1 m hm).1] at e5
            subst e5
            have hlm3 := (hP3.1.1.wb.1 m hm).2
            refine ⟨fun w => ∃ q, PC Γ σ x (pot σ q0) set w q Γ.2.2.1.length Γ.2.2.2.length (m + 1) ∧ ∀ j, gb w x j = true → bt T j = true ∨ ∀ s, sb w x s = true → fb w x s = true, ⟨x, ld s3 m, hx, hlm3, rfl, ⟨q', hP3, hT3⟩, fun w ⟨q, hw, _⟩ => hw.1.1.wb, fun w k ⟨q, hw, hw2⟩ hk hxk hlk hp1 hp2 => ?_⟩, fun s7 hs7 => ?_⟩
            · have hSS : ∀ S, Slv Γ S → ∀ s, S x s ↔ S k s := by
                intro S hS s
                constructor
                · intro h
                  have a1 := hST m hm hb S hS s h
                  have a2 := ((hP3.1.2.1 S hS).1 m hm s).mp a1
                  exact Path.sound hP3.1.1 hP3.1.2.1 hlm3 hp1 hS s a2
                · exact fun h => Path.sound hw.1.1 hw.1.2.1 hk hp2 hS s h
              obtain ⟨j1, j2, j3, j4, j5, j6, j7⟩ := hw.1.join hGB hx hk hxk hw.2.2.2.1 hlk hSS
              exact ⟨qadd q x, ⟨j1, Nat.le_trans j2 hw.2.1, hw.2.2.1.tr j3, j4, fun s hs => j5 _ _ (hw.2.2.2.2 s hs)⟩, fun j _ => Or.inr j7⟩
            · have := hn s7 hs7
              rw [← nI_1] at this
              exact this)
    exact key 0 τ (by omega) ⟨q, hτ, fun j hj => Or.inl (by unfold gb at hj; rw [hT] at hj; exact hj)⟩
  have key64 : ∀ τ q, PC Γ σ x (pot σ q0) set τ q Γ.2.2.1.length 0 0 → G 64 [some (.inr 99), some (.inl (nI x)), some (.inl set), some (.inl (nI 0)), none, none] [] τ := by
    intro τ q hτ
    have key := zup (α := mS) (N := Γ.2.2.2.length) (H := fun i υ => G 64 [some (.inr 99), some (.inl (nI x)), some (.inl set), some (.inl (nI i)), none, none] [] υ)
      (I := fun i υ => ∃ q, PC Γ σ x (pot σ q0) set υ q Γ.2.2.1.length i 0)
      (fun υ ⟨q, h1⟩ => by
        have hL := hLR.fr h1.2.2.1
        have hlen := hL.2.2.1
        refine X0v_pass_64 hG _ _ _ υ ⟨fun _ => ⟨hx1, fun x1 e1 => ?_⟩, fun c => ?_⟩
        · rw [hcx] at e1
          subst e1
          exact key120 υ q h1
        · rw [hL.2.1] at c
          exact zle (by omega) c)
      (fun i υ hi ⟨q, h1⟩ hn => by
        have hL := hLR.fr h1.2.2.1
        have hlen := hL.2.2.1
        have hWb := h1.1.1.wb
        obtain ⟨p, hp⟩ : ∃ p, Γ.2.2.2[i]? = some p := ⟨_, List.getElem?_eq_getElem hi⟩
        obtain ⟨b1, b2, b3⟩ := hGB.2.2.2 p (List.mem_of_getElem? hp)
        obtain ⟨a1, a2, a3⟩ := hL.2.2.2 i p hp
        refine X0v_pass_64 hG _ _ _ υ ⟨fun c => ?_, fun _ => ⟨zi_in (by omega) (by decide), fun x2 e2 => ?_⟩⟩
        · rw [hL.2.1] at c
          exact zge hi (by omega) c
        · rw [nI_clamp (by omega), a1] at e2
          subst e2
          obtain ⟨e0, hl0⟩ := hWb.1 p.1 (by omega)
          refine ⟨zi_in (by omega) (by decide), fun x3 e3 => ?_⟩
          rw [nI_clamp (by omega), e0] at e3
          subst e3
          refine ⟨fun d => ?_, fun d => ⟨zi_in (by omega) (by decide), fun x4 e4 => ⟨zi_in (by omega) (by decide), fun x5 e5 => ?_⟩⟩⟩
          · have hne : ld υ p.1 ≠ x := fun e => d (by rw [e])
            have := hn υ ⟨q, h1.1.doneS (fun p' hp' e s _ => ?_), h1.2⟩
            · rw [← nI_1] at this
              exact this
            · rw [hp] at hp'
              cases hp'
              exact absurd e hne
          · have hlp : ld υ p.1 = x := zn_inj (by omega) (by omega) d
            rw [nI_clamp (by omega), a2] at e4
            rw [nI_clamp (by omega), a3] at e5
            subst e4 e5
            refine ⟨⟨set, p.2.1, p.2.2, b2, by omega, rfl, hWb⟩, fun s6 h6 => ?_⟩
            have h6 := h6 set p.2.1 p.2.2 b2 (by omega) rfl
            obtain ⟨q', g1, g2, g3, g4, -, g5⟩ := h1.1.et (set := set) (f := p.2.1) (y := p.2.2) b2 (by omega) (fun S hS s hs hb t ht => by
              have c1 := (h1.1.2.1 S hS).2.1 x hx s (h1.2.2.2.2 s hb)
              have c2 := ((h1.1.2.1 S hS).1 p.1 (by omega) s)
              rw [hlp] at c2
              exact hS.2.2.2 p (List.mem_of_getElem? hp) s hs (c2.mpr c1) t ht) 8 (Nat.le_refl 8)
            rw [← h6] at g1 g3 g4 g5
            have hP6 : PC Γ σ x (pot σ q0) set s6 q' Γ.2.2.1.length (i + 1) 0 := by
              refine h1.next (g1.doneS (fun p' hp' e s hs => ?_)) g3 g4
              rw [hp] at hp'
              cases hp'
              rw [ld_of0 g4.1, ld_of0 g4.1]
              exact g5 s (h1.1.1.2.1 x hx s (h1.2.2.2.2 s hs)) hs
            have := hn s6 ⟨q', hP6⟩
            rw [← nI_1] at this
            exact this)
    exact key 0 τ (by omega) ⟨q, hτ⟩
  have key16 : ∀ τ q, PC Γ σ x (pot σ q0) set τ q 0 0 0 → G 16 [some (.inr 99), some (.inl (nI x)), some (.inl set), some (.inl (nI 0)), none, none] [] τ := by
    intro τ q hτ
    have key := zup (α := mS) (N := Γ.2.2.1.length) (H := fun i υ => G 16 [some (.inr 99), some (.inl (nI x)), some (.inl set), some (.inl (nI i)), none, none] [] υ)
      (I := fun i υ => ∃ q, PC Γ σ x (pot σ q0) set υ q i 0 0)
      (fun υ ⟨q, h1⟩ => by
        have hL := hLR.fr h1.2.2.1
        have hlen := hL.1.2.1
        refine X0v_pass_16 hG _ _ _ υ ⟨fun _ => key64 υ q h1, fun c => ?_⟩
        rw [hL.1.1] at c
        exact zle (by omega) c)
      (fun i υ hi ⟨q, h1⟩ hn => by
        have hL := hLR.fr h1.2.2.1
        have hlen := hL.1.2.1
        have hWb := h1.1.1.wb
        obtain ⟨p, hp⟩ : ∃ p, Γ.2.2.1[i]? = some p := ⟨_, List.getElem?_eq_getElem hi⟩
        obtain ⟨b1, b2, b3⟩ := hGB.2.2.1 p (List.mem_of_getElem? hp)
        obtain ⟨a1, a2, a3⟩ := hL.1.2.2 i p hp
        refine X0v_pass_16 hG _ _ _ υ ⟨fun c => ?_, fun _ => ⟨zi_in (by omega) (by decide), fun x2 e2 => ?_⟩⟩
        · rw [hL.1.1] at c
          exact zge hi (by omega) c
        · rw [nI_clamp (by omega), a2] at e2
          subst e2
          obtain ⟨e0, hl0⟩ := hWb.1 p.2.1 (by omega)
          refine ⟨zi_in (by omega) (by decide), fun x3 e3 => ?_⟩
          rw [nI_clamp (by omega), e0] at e3
          subst e3
          refine ⟨fun d => ?_, fun d => ⟨zi_in (by omega) (by decide), fun x4 e4 => ⟨zi_in (by omega) (by decide), fun x5 e5 => ?_⟩⟩⟩
          · have hne : ld υ p.2.1 ≠ x := fun e => d (by rw [e])
            have := hn υ ⟨q, h1.1.doneL (fun p' hp' e s _ => ?_), h1.2⟩
            · rw [← nI_1] at this
              exact this
            · rw [hp] at hp'
              cases hp'
              exact absurd e hne
          · have hlp : ld υ p.2.1 = x := zn_inj (by omega) (by omega) d
            rw [nI_clamp (by omega), a3] at e4
            rw [nI_clamp (by omega), a1] at e5
            subst e4 e5
            refine ⟨⟨set, p.2.2, p.1, b3, by omega, rfl, hWb⟩, fun s6 h6 => ?_⟩
            have h6 := h6 set p.2.2 p.1 b3 (by omega) rfl
            obtain ⟨q', g1, g2, g3, g4, -, g5⟩ := h1.1.ef (set := set) (f := p.2.2) (y := p.1) b3 (by omega) (fun S hS s hs hb t ht => by
              have c1 := (h1.1.2.1 S hS).2.1 x hx s (h1.2.2.2.2 s hb)
              have c2 := ((h1.1.2.1 S hS).1 p.2.1 (by omega) s)
              rw [hlp] at c2
              exact hS.2.2.1 p (List.mem_of_getElem? hp) s hs (c2.mpr c1) t ht) 8 (Nat.le_refl 8)
            rw [← h6] at g1 g3 g4 g5
            have hP6 : PC Γ σ x (pot σ q0) set s6 q' (i + 1) 0 0 := by
              refine h1.next (g1.doneL (fun p' hp' e s hs => ?_)) g3 g4
              rw [hp] at hp'
              cases hp'
              rw [ld_of0 g4.1, ld_of0 g4.1]
              exact g5 s (h1.1.1.2.1 x hx s (h1.2.2.2.2 s hs)) hs
            have := hn s6 ⟨q', hP6⟩
            rw [← nI_1] at this
            exact this)
    exact key 0 τ (by omega) ⟨q, hτ⟩
  refine ⟨Or.inl (Nat.le_of_ble_eq_true rfl), X0v_pass_0 hG _ σ ⟨hx1, fun x1 e1 => ⟨hx1, ?_⟩⟩⟩
  rw [hcx] at e1 ⊢
  rw [e1, hset]
  refine key16 (mU σ 2 x 0) q0 ⟨hI0, by rw [pot_f]; exact Nat.le_refl _, fun k hk => mU_ne (by omega), by rw [ld_of0 (mU_ne (by decide))]; exact hlx, fun s hs => ?_⟩
  have := hXs s hs
  unfold sb at this ⊢
  rw [mU_ne (by decide)]
  exact this
theorem X0d_solve (G : Nat → mL → List mv → mS → Prop) (Q : Option Int32 → mS → Prop) (vs : List Int32) (σ : mS) (hG : mCl X0g_solve G Q) (h : X0t_solve vs σ Q) : (vs.length + 1 ≤ 3 ∨ (true = false ∧ vs.length ≤ 3)) ∧ G 0 (mL0 3 true vs) [] σ := by
  obtain ⟨Γ, ⟨rfl, hGB, hLR, q, hI⟩, hq⟩ := h
  have hq : ∀ τ, INV Γ τ [] → Fr σ τ → Q none τ := fun τ h1 h2 => hq τ ⟨h1, h2⟩
  have key : ∀ (k r : Nat) (τ : mS) (q : List Nat), INV Γ τ q → Fr σ τ → pot τ q ≤ k → r + k ≤ 290 → G 2 [some (.inr 99), some (.inl (nI r)), none] [] τ := by
    intro k
    induction k with
    | zero =>
      intro r τ q h1 h2 h3 h4
      cases q with
      | nil =>
        have e := h1.1.2.2.2.2.1.nil
        exact X0v_solve_2 hG _ τ ⟨fun _ => hq τ h1 h2, fun _ => ⟨fun _ => hq τ h1 h2, fun c => absurd e c⟩⟩
      | cons n q =>
        unfold pot at h3
        rw [List.length_cons] at h3
        omega
    | succ k ih =>
      intro r τ q h1 h2 h3 h4
      cases q with
      | nil =>
        have e := h1.1.2.2.2.2.1.nil
        exact X0v_solve_2 hG _ τ ⟨fun _ => hq τ h1 h2, fun _ => ⟨fun _ => hq τ h1 h2, fun c => absurd e c⟩⟩
      | cons n q =>
        have hQ := h1.1.2.2.2.2.1
        obtain ⟨hn, ⟨t, ht, ht1, ht2⟩, -⟩ := hQ.deq
        refine X0v_solve_2 hG _ τ ⟨fun c => absurd c (nI_ge (show r < 600 by omega) (by decide)), fun _ => ⟨fun c => absurd c hQ.cons, fun _ => ⟨by rw [ht1]; exact zi_in ht (by decide), fun x1 e1 => ?_⟩⟩⟩
        rw [ht1, nI_clamp (by omega), ht2] at e1
        subst e1
        have hn1 := zi_in hn (show 28 < 2 ^ 31 by decide)
        have hpot := fDeq_pot (σ := τ) (n := n) (q := q)
        refine ⟨hn1, hn1, fun x2 e2 => ?_⟩
        rw [nI_clamp (by omega)] at e2 ⊢
        obtain ⟨e0, hl0, -⟩ := h1.1.1 n hn
        rw [e0] at e2
        subst e2
        have hFr : Fr σ (fDeq τ n) := h2.tr (fun k hk => fDeq_k (by omega) (by omega))
        refine ⟨fun d => ?_, fun d => ?_⟩
        · have := ih (r + 1) (fDeq τ n) q (h1.skip (fun e => d (by rw [e]))) hFr (by omega) (by omega)
          rw [← nI_1] at this
          exact this
        · have hlx : ld τ n = n := zn_inj (by omega) (by omega) d
          refine ⟨(Γ, q), ⟨n, hn, rfl, hGB, ?_, ?_, ?_, ?_⟩, fun s4 h4 => ?_⟩
          · show ld (fDeq τ n) n = n
            rw [ld_of0 (fDeq_k (by decide) (by decide))]
            exact hlx
          · exact hLR.fr hFr
          · exact h1.start
          · intro s hs
            show sb (fDeq τ n) n s = true
            have hs : bt (fDeq τ n 2 n) s = true := hs
            unfold sb
            rw [fDeq_k (by decide) (by decide)] at hs ⊢
            exact h1.1.2.2.2.1 n hn s hs
          · obtain ⟨q', g1, g2, g3⟩ := h4
            have g2 : pot s4 q' ≤ pot (fDeq τ n) q := g2
            have := ih (r + 1) s4 q' g1 (hFr.tr g3) (by omega) (by omega)
            rw [← nI_1] at this
            exact this
  exact ⟨Or.inl (Nat.le_of_ble_eq_true rfl), X0v_solve_0 hG σ (key 280 0 σ q hI (Fr.rf σ) (pot_le hI.1.2.2.2.2.1) (by omega))⟩
end
section
/-! printed by gen/ok.py: the methods' contracts over the machine -/
set_option maxRecDepth 100000
theorem X0k_badVariable : mMet vwCl 0 fdX0 0 yX0_badVariable cX0_badVariable 1 (some .boolean) false X0t_badVariable := mMet_of kdX0 rfl rfl X0b_badVariable_ok (show ∀ q ∈ ([] : List (Nat × Nat × Bool × mT)), mCallOK vwCl 0 RX0 fdX0 0 q from fun _ h => absurd h List.not_mem_nil) X0d_badVariable
theorem X0k_badSite : mMet vwCl 0 fdX0 0 yX0_badSite cX0_badSite 1 (some .boolean) false X0t_badSite := mMet_of kdX0 rfl rfl X0b_badSite_ok (show ∀ q ∈ ([] : List (Nat × Nat × Bool × mT)), mCallOK vwCl 0 RX0 fdX0 0 q from fun _ h => absurd h List.not_mem_nil) X0d_badSite
theorem X0k_badField : mMet vwCl 0 fdX0 0 yX0_badField cX0_badField 1 (some .boolean) false X0t_badField := mMet_of kdX0 rfl rfl X0b_badField_ok (show ∀ q ∈ ([] : List (Nat × Nat × Bool × mT)), mCallOK vwCl 0 RX0 fdX0 0 q from fun _ h => absurd h List.not_mem_nil) X0d_badField
theorem X0k_fieldNode : mMet vwCl 0 fdX0 0 yX0_fieldNode cX0_fieldNode 2 (some .int) false X0t_fieldNode := mMet_of kdX0 rfl rfl X0b_fieldNode_ok (show ∀ q ∈ ([] : List (Nat × Nat × Bool × mT)), mCallOK vwCl 0 RX0 fdX0 0 q from fun _ h => absurd h List.not_mem_nil) X0d_fieldNode
theorem X0k_bits : mMet vwCl 0 fdX0 0 yX0_bits cX0_bits 3 (some .int) false X0t_bits := mMet_of kdX0 rfl rfl X0b_bits_ok (show ∀ q ∈ ([] : List (Nat × Nat × Bool × mT)), mCallOK vwCl 0 RX0 fdX0 0 q from fun _ h => absurd h List.not_mem_nil) X0d_bits
theorem X0k_enqueue : mMet vwCl 0 fdX0 0 yX0_enqueue cX0_enqueue 2 (none) true X0t_enqueue := mMet_of kdX0 rfl rfl X0b_enqueue_ok (show ∀ q ∈ ([] : List (Nat × Nat × Bool × mT)), mCallOK vwCl 0 RX0 fdX0 0 q from fun _ h => absurd h List.not_mem_nil) X0d_enqueue
theorem X0k_addSites : mMet vwCl 0 fdX0 1 yX0_addSites cX0_addSites 5 (none) true X0t_addSites := mMet_of kdX0 rfl rfl X0b_addSites_ok (show ∀ q ∈ ([(83, 1, true, X0t_enqueue)] : List (Nat × Nat × Bool × mT)), mCallOK vwCl 0 RX0 fdX0 1 q from List.forall_mem_cons.mpr ⟨⟨yX0_enqueue, cX0_enqueue, 2, none, 0, X0k_enqueue, by decide, by decide, ⟨rfl, by decide +kernel, by decide +kernel, by decide +kernel⟩, q160, q163, q34, ⟨q162, qs1⟩⟩, fun _ h => absurd h List.not_mem_nil⟩) X0d_addSites
theorem X0k_addEdge : mMet vwCl 0 fdX0 2 yX0_addEdge cX0_addEdge 5 (none) true X0t_addEdge := mMet_of kdX0 rfl rfl X0b_addEdge_ok (show ∀ q ∈ ([(91, 2, true, X0t_addSites)] : List (Nat × Nat × Bool × mT)), mCallOK vwCl 0 RX0 fdX0 2 q from List.forall_mem_cons.mpr ⟨⟨yX0_addSites, cX0_addSites, 5, none, 1, X0k_addSites, by decide, by decide, ⟨rfl, by decide +kernel, by decide +kernel, by decide +kernel⟩, q156, q159, q34, ⟨q158, qs0⟩⟩, fun _ h => absurd h List.not_mem_nil⟩) X0d_addEdge
theorem X0k_edgesFromFields : mMet vwCl 0 fdX0 3 yX0_edgesFromFields cX0_edgesFromFields 5 (none) true X0t_edgesFromFields := mMet_of kdX0 rfl rfl X0b_edgesFromFields_ok (show ∀ q ∈ ([(117, 2, false, X0t_fieldNode), (121, 2, true, X0t_addEdge)] : List (Nat × Nat × Bool × mT)), mCallOK vwCl 0 RX0 fdX0 3 q from List.forall_mem_cons.mpr ⟨⟨yX0_fieldNode, cX0_fieldNode, 2, some .int, 0, X0k_fieldNode, by decide, by decide, ⟨rfl, by decide +kernel, by decide +kernel, by decide +kernel⟩, q176, q178, q34, q177⟩, List.forall_mem_cons.mpr ⟨⟨yX0_addEdge, cX0_addEdge, 5, none, 2, X0k_addEdge, by decide, by decide, ⟨rfl, by decide +kernel, by decide +kernel, by decide +kernel⟩, q179, q182, q34, ⟨q181, qs5⟩⟩, fun _ h => absurd h List.not_mem_nil⟩⟩) X0d_edgesFromFields
theorem X0k_edgesToFields : mMet vwCl 0 fdX0 3 yX0_edgesToFields cX0_edgesToFields 5 (none) true X0t_edgesToFields := mMet_of kdX0 rfl rfl X0b_edgesToFields_ok (show ∀ q ∈ ([(117, 2, false, X0t_fieldNode), (121, 2, true, X0t_addEdge)] : List (Nat × Nat × Bool × mT)), mCallOK vwCl 0 RX0 fdX0 3 q from List.forall_mem_cons.mpr ⟨⟨yX0_fieldNode, cX0_fieldNode, 2, some .int, 0, X0k_fieldNode, by decide, by decide, ⟨rfl, by decide +kernel, by decide +kernel, by decide +kernel⟩, q176, q178, q34, q177⟩, List.forall_mem_cons.mpr ⟨⟨yX0_addEdge, cX0_addEdge, 5, none, 2, X0k_addEdge, by decide, by decide, ⟨rfl, by decide +kernel, by decide +kernel, by decide +kernel⟩, q179, q182, q34, ⟨q181, qs5⟩⟩, fun _ h => absurd h List.not_mem_nil⟩⟩) X0d_edgesToFields
theorem X0k_leadersOf : mMet vwCl 0 fdX0 0 yX0_leadersOf cX0_leadersOf 4 (some .int) true X0t_leadersOf := mMet_of kdX0 rfl rfl X0b_leadersOf_ok (show ∀ q ∈ ([] : List (Nat × Nat × Bool × mT)), mCallOK vwCl 0 RX0 fdX0 0 q from fun _ h => absurd h List.not_mem_nil) X0d_leadersOf
theorem X0k_reach : mMet vwCl 0 fdX0 1 yX0_reach cX0_reach 6 (some .int) true X0t_reach := mMet_of kdX0 rfl rfl X0b_reach_ok (show ∀ q ∈ ([(124, 1, true, X0t_leadersOf)] : List (Nat × Nat × Bool × mT)), mCallOK vwCl 0 RX0 fdX0 1 q from List.forall_mem_cons.mpr ⟨⟨yX0_leadersOf, cX0_leadersOf, 4, some .int, 0, X0k_leadersOf, by decide, by decide, ⟨rfl, by decide +kernel, by decide +kernel, by decide +kernel⟩, q195, q198, q34, ⟨q197, qs9⟩⟩, fun _ h => absurd h List.not_mem_nil⟩) X0d_reach
theorem X0k_join : mMet vwCl 0 fdX0 1 yX0_join cX0_join 4 (none) true X0t_join := mMet_of kdX0 rfl rfl X0b_join_ok (show ∀ q ∈ ([(83, 1, true, X0t_enqueue)] : List (Nat × Nat × Bool × mT)), mCallOK vwCl 0 RX0 fdX0 1 q from List.forall_mem_cons.mpr ⟨⟨yX0_enqueue, cX0_enqueue, 2, none, 0, X0k_enqueue, by decide, by decide, ⟨rfl, by decide +kernel, by decide +kernel, by decide +kernel⟩, q160, q163, q34, ⟨q162, qs1⟩⟩, fun _ h => absurd h List.not_mem_nil⟩) X0d_join
theorem X0k_tryCircle : mMet vwCl 0 fdX0 2 yX0_tryCircle cX0_tryCircle 6 (none) true X0t_tryCircle := mMet_of kdX0 rfl rfl X0b_tryCircle_ok (show ∀ q ∈ ([(128, 1, true, X0t_reach), (131, 2, true, X0t_join)] : List (Nat × Nat × Bool × mT)), mCallOK vwCl 0 RX0 fdX0 2 q from List.forall_mem_cons.mpr ⟨⟨yX0_reach, cX0_reach, 6, some .int, 1, X0k_reach, by decide, by decide, ⟨rfl, by decide +kernel, by decide +kernel, by decide +kernel⟩, q191, q194, q34, ⟨q193, qs8⟩⟩, List.forall_mem_cons.mpr ⟨⟨yX0_join, cX0_join, 4, none, 1, X0k_join, by decide, by decide, ⟨rfl, by decide +kernel, by decide +kernel, by decide +kernel⟩, q199, q202, q34, ⟨q201, qs10⟩⟩, fun _ h => absurd h List.not_mem_nil⟩⟩) X0d_tryCircle
theorem X0k_pass : mMet vwCl 0 fdX0 4 yX0_pass cX0_pass 6 (none) true X0t_pass := mMet_of kdX0 rfl rfl X0b_pass_ok (show ∀ q ∈ ([(104, 3, true, X0t_edgesFromFields), (111, 3, true, X0t_edgesToFields), (91, 2, true, X0t_addSites), (114, 2, true, X0t_tryCircle)] : List (Nat × Nat × Bool × mT)), mCallOK vwCl 0 RX0 fdX0 4 q from List.forall_mem_cons.mpr ⟨⟨yX0_edgesFromFields, cX0_edgesFromFields, 5, none, 3, X0k_edgesFromFields, by decide, by decide, ⟨rfl, by decide +kernel, by decide +kernel, by decide +kernel⟩, q172, q175, q34, ⟨q174, qs4⟩⟩, List.forall_mem_cons.mpr ⟨⟨yX0_edgesToFields, cX0_edgesToFields, 5, none, 3, X0k_edgesToFields, by decide, by decide, ⟨rfl, by decide +kernel, by decide +kernel, by decide +kernel⟩, q183, q186, q34, ⟨q185, qs6⟩⟩, List.forall_mem_cons.mpr ⟨⟨yX0_addSites, cX0_addSites, 5, none, 1, X0k_addSites, by decide, by decide, ⟨rfl, by decide +kernel, by decide +kernel, by decide +kernel⟩, q156, q159, q34, ⟨q158, qs0⟩⟩, List.forall_mem_cons.mpr ⟨⟨yX0_tryCircle, cX0_tryCircle, 6, none, 2, X0k_tryCircle, by decide, by decide, ⟨rfl, by decide +kernel, by decide +kernel, by decide +kernel⟩, q187, q190, q34, ⟨q189, qs7⟩⟩, fun _ h => absurd h List.not_mem_nil⟩⟩⟩⟩) X0d_pass
theorem X0k_solve : mMet vwCl 0 fdX0 5 yX0_solve cX0_solve 3 (none) true X0t_solve := mMet_of kdX0 rfl rfl X0b_solve_ok (show ∀ q ∈ ([(98, 1, true, X0t_pass)] : List (Nat × Nat × Bool × mT)), mCallOK vwCl 0 RX0 fdX0 5 q from List.forall_mem_cons.mpr ⟨⟨yX0_pass, cX0_pass, 6, none, 4, X0k_pass, by decide, by decide, ⟨rfl, by decide +kernel, by decide +kernel, by decide +kernel⟩, q168, q171, q34, ⟨q170, qs3⟩⟩, fun _ h => absurd h List.not_mem_nil⟩) X0d_solve
end
section
/-! THE ONE MATHEMATICAL VALUE that both classes are tied to, and what each public method does to it and answers -/
set_option maxRecDepth 100000
def mGp {γ : Type} (P : γ → List Int32 → mS → Prop) (R : γ → List Int32 → mS → Int32 → Prop) : mT := fun vs σ Q => ∃ g : γ, P g vs σ ∧ ∀ x : Int32, R g vs σ x → Q (some x) σ
/-- constraints; sites once made; regions (thread, lock's variable, around); accesses (place, variable, field, writes) -/
abbrev AS : Type := Gam × (Nat → Bool) × List (Nat × Nat × Option Nat) × List (Nat × Nat × Nat × Bool)
def Msk (Γ : Gam) (x : Nat) (m : Int32) : Prop := ∀ s, bt m s = true ↔ Lst Γ x s
theorem Msk.one {Γ : Gam} {x : Nat} {m m' : Int32} (h : Msk Γ x m) (h' : Msk Γ x m') : m = m' := by
  refine b_ext fun s _ => ?_
  have a := h s
  have b := h' s
  cases h1 : bt m s <;> cases h2 : bt m' s <;> simp_all
noncomputable def msk (Γ : Gam) (x : Nat) : Int32 := Classical.epsilon (fun m => Msk Γ x m)
theorem Msk.eq {Γ : Gam} {x : Nat} {m : Int32} (h : Msk Γ x m) : m = msk Γ x := h.one (Classical.epsilon_spec (p := fun m => Msk Γ x m) ⟨m, h⟩)
-- ===== masks by bits =====
def zmk (p : Nat → Bool) : Nat → Int32
  | 0 => 0
  | n + 1 => zmk p n ||| (if p n then (1 : Int32) <<< (nI n &&& 31) else 0)
theorem zmk_bt (p : Nat → Bool) : ∀ (n : Nat), n ≤ 31 → ∀ s, bt (zmk p n) s = (decide (s < n) && p s)
  | 0, _, s => by
    show bt 0 s = _
    rw [b_0, decide_eq_false (Nat.not_lt_zero s)]
    rfl
  | n + 1, hn, s => by
    show bt (zmk p n ||| (if p n then (1 : Int32) <<< (nI n &&& 31) else 0)) s = _
    rw [b_or, zmk_bt p n (by omega) s]
    rcases Nat.lt_or_ge s 32 with h | h
    · by_cases e : s = n
      · subst e
        cases hp : p s
        · simp [b_0]
        · simp [zb_one (show s < 32 by omega) h]
      · have e2 : decide (s < n + 1) = decide (s < n) := by
          by_cases q : s < n
          · rw [decide_eq_true q, decide_eq_true (by omega)]
          · rw [decide_eq_false q, decide_eq_false (by omega)]
        cases hp : p n
        · simp [b_0, e2]
        · simp [zb_one (show n < 32 by omega) h, e, e2]
    · rw [decide_eq_false (show ¬ s < n + 1 by omega), decide_eq_false (show ¬ s < n by omega), b_big h]
      rfl
def zmask (p : Nat → Bool) : Int32 := zmk p 8
theorem zmask_bt (p : Nat → Bool) (s : Nat) : bt (zmask p) s = (decide (s < 8) && p s) := zmk_bt p 8 (by omega) s
theorem zmask_eq {p : Nat → Bool} {m : Int32} (h : ∀ s, bt m s = (decide (s < 8) && p s)) : m = zmask p := b_ext fun s _ => by rw [h s, zmask_bt]
def enc (a : Option Nat) : Int32 := match a with
  | none => -1
  | some r => nI r
-- ===== the parts =====
def ls (A : AS) : List (Nat × Nat × Nat) := A.1.2.2.1
def ss (A : AS) : List (Nat × Nat × Nat) := A.1.2.2.2
def rg (A : AS) (r : Nat) : Nat × Nat × Option Nat := A.2.2.1.getD r (0, 0, none)
def ac (A : AS) (i : Nat) : Nat × Nat × Nat × Bool := A.2.2.2.getD i (0, 0, 0, false)
def AW (A : AS) : Prop := GB A.1 ∧ A.1.2.2.1.length ≤ 20 ∧ A.1.2.2.2.length ≤ 20 ∧ A.2.2.1.length ≤ 12 ∧ A.2.2.2.length ≤ 16 ∧
  (∀ r, r < A.2.2.1.length → (rg A r).1 < 4 ∧ (rg A r).2.1 < 12 ∧ ∀ a, (rg A r).2.2 = some a → a < r) ∧
  ∀ i, i < A.2.2.2.length → (ac A i).1 < 4 + A.2.2.1.length ∧ (ac A i).2.1 < 12 ∧ (ac A i).2.2.1 < 2
/-- the regions around, innermost first, k at most -/
def ancs (A : AS) : Nat → Option Nat → List Nat
  | 0, _ => []
  | _ + 1, none => []
  | k + 1, some q => q :: ancs A k (rg A q).2.2
/-- the lock of region q, if it is one site that is once made -/
noncomputable def lkm (A : AS) (q : Nat) : Int32 := zmask (fun s => decide (msk A.1 (rg A q).2.1 = (1 : Int32) <<< (nI s &&& 31)) && A.2.1 s)
noncomputable def heldL (A : AS) (l : List Nat) (m : Int32) : Int32 := l.foldl (fun m q => m ||| lkm A q) m
noncomputable def heldm (A : AS) (p : Nat) : Int32 := if p < 4 then 0 else heldL A (ancs A 12 (some (p - 4))) 0
def thr (A : AS) (p : Nat) : Nat := if p < 4 then p else (rg A (p - 4)).1
noncomputable def conf (A : AS) (i j : Nat) : Bool := decide (thr A (ac A i).1 ≠ thr A (ac A j).1) && (decide ((ac A i).2.2.1 = (ac A j).2.2.1) && (((ac A i).2.2.2 || (ac A j).2.2.2) && (decide (¬ msk A.1 (ac A i).2.1 &&& msk A.1 (ac A j).2.1 = 0) && decide (heldm A (ac A i).1 &&& heldm A (ac A j).1 = 0))))
noncomputable def rcs (A : AS) (n : Nat) : Nat := fb_sm (fun i => fb_ct (fun j => decide (i < j) && conf A i j) A.2.2.2.length) n
/-- a step of thread t from site a to site b -/
def Stp2 (A : AS) (t a b : Nat) : Prop := ∃ r, r < A.2.2.1.length ∧ (rg A r).1 = t ∧ ∃ q, q ∈ ancs A 12 (rg A r).2.2 ∧ bt (msk A.1 (rg A q).2.1) a = true ∧ bt (msk A.1 (rg A r).2.1) b = true ∧ ¬ (a = b ∧ A.2.1 a = true)
/-- b is reached from a over none or more steps of any threads -/
def Rch (E : Nat → Nat → Prop) (a b : Nat) : Prop := ∀ R : Nat → Prop, R a → (∀ x y, R x → E x y → R y) → R b
def anyStp (A : AS) (a b : Nat) : Prop := ∃ t, Stp2 A t a b
def Dng (A : AS) (s : Nat) : Prop := ∃ t1 t2 a1 b1 a2 b2, t1 ≠ t2 ∧ (Stp2 A t1 a1 b1 ∧ Rch (anyStp A) s a1 ∧ Rch (anyStp A) b1 s) ∧ Stp2 A t2 a2 b2 ∧ Rch (anyStp A) s a2 ∧ Rch (anyStp A) b2 s
noncomputable def dngm (A : AS) : Int32 := zmask (fun s => Classical.propDecidable (Dng A s) |>.decide)
-- ===== the methods =====
abbrev bdN (N : Nat) (v : Int32) : Prop := v < 0 ∨ nI N ≤ v
def gAl (Γ : Gam) (v s : Nat) : Gam := (fun v' s' => Γ.1 v' s' ∨ (v' = v ∧ s' = s), Γ.2)
def gCp (Γ : Gam) (v w : Nat) : Gam := (Γ.1, (fun v' w' => Γ.2.1 v' w' ∨ (v' = v ∧ w' = w)), Γ.2.2)
def gLd (Γ : Gam) (v w f : Nat) : Gam := (Γ.1, Γ.2.1, Γ.2.2.1 ++ [(v, w, f)], Γ.2.2.2)
def gSt (Γ : Gam) (v f w : Nat) : Gam := (Γ.1, Γ.2.1, Γ.2.2.1, Γ.2.2.2 ++ [(v, f, w)])
noncomputable def opAlloc (A : AS) (v s : Int32) : Int32 × AS := if bdN 12 v ∨ bdN 8 s then (-1, A) else (nI (zcnt (msk (gAl A.1 (nv v) (nv s)) (nv v))), (gAl A.1 (nv v) (nv s), A.2))
noncomputable def opCopy (A : AS) (v w : Int32) : Int32 × AS := if bdN 12 v ∨ bdN 12 w then (-1, A) else (nI (zcnt (msk (gCp A.1 (nv v) (nv w)) (nv v))), (gCp A.1 (nv v) (nv w), A.2))
noncomputable def opLoad (A : AS) (v w f : Int32) : Int32 × AS := if bdN 12 v ∨ bdN 12 w ∨ bdN 2 f then (-1, A) else if 20 ≤ A.1.2.2.1.length then (-2, A) else (nI (zcnt (msk (gLd A.1 (nv v) (nv w) (nv f)) (nv v))), (gLd A.1 (nv v) (nv w) (nv f), A.2))
def opStore (A : AS) (v f w : Int32) : Int32 × AS := if bdN 12 v ∨ bdN 12 w ∨ bdN 2 f then (-1, A) else if 20 ≤ A.1.2.2.2.length then (-2, A) else (0, (gSt A.1 (nv v) (nv f) (nv w), A.2))
def opOnce (A : AS) (s b : Int32) : Int32 × AS := if bdN 8 s then (-1, A) else (if A.2.1 (nv s) then 1 else 0, (A.1, (fun k => if k = nv s then decide (¬ b = 0) else A.2.1 k), A.2.2))
def opRegion (A : AS) (t v a : Int32) : Int32 × AS := if bdN 4 t ∨ bdN 12 v ∨ a < -1 ∨ nI A.2.2.1.length ≤ a ∨ (0 ≤ a ∧ (rg A (nv a)).1 ≠ nv t) then (-1, A) else if 12 ≤ A.2.2.1.length then (-2, A) else
  (nI A.2.2.1.length, (A.1, A.2.1, A.2.2.1 ++ [(nv t, nv v, if 0 ≤ a then some (nv a) else none)], A.2.2.2))
def opAccess (A : AS) (p v f w : Int32) : Int32 × AS := if bdN (4 + A.2.2.1.length) p ∨ bdN 12 v ∨ bdN 2 f then (-1, A) else if 16 ≤ A.2.2.2.length then (-2, A) else
  (nI A.2.2.2.length, (A.1, A.2.1, A.2.2.1, A.2.2.2 ++ [(nv p, nv v, nv f, decide (¬ w = 0))]))
noncomputable def ansPoints (A : AS) (v : Int32) : Int32 := if bdN 12 v then -1 else msk A.1 (nv v)
noncomputable def ansHolds (A : AS) (s f : Int32) : Int32 := if bdN 8 s ∨ bdN 2 f then -1 else msk A.1 (fnode (nv s) (nv f))
noncomputable def ansRace (A : AS) (i j : Int32) : Int32 := if bdN A.2.2.2.length i ∨ bdN A.2.2.2.length j then 0 else if conf A (nv i) (nv j) then 1 else 0
noncomputable def ansRaces (A : AS) : Int32 := nI (rcs A A.2.2.2.length)
noncomputable def ansHeld (A : AS) (p : Int32) : Int32 := if bdN (4 + A.2.2.1.length) p then -1 else heldm A (nv p)
-- ===== the component's state =====
def RepX (A : AS) (σ : mS) : Prop := AW A ∧ LR A.1 σ ∧ INV A.1 σ [] ∧ σ 16 0 = zmask A.2.1 ∧
  (σ 17 0 = nI A.2.2.1.length ∧ ∀ r, r < A.2.2.1.length → σ 18 r = nI (rg A r).1 ∧ σ 19 r = nI (rg A r).2.1 ∧ σ 20 r = enc (rg A r).2.2) ∧
  (σ 21 0 = nI A.2.2.2.length ∧ ∀ i, i < A.2.2.2.length → σ 22 i = nI (ac A i).1 ∧ σ 23 i = nI (ac A i).2.1 ∧ σ 24 i = nI (ac A i).2.2.1 ∧ σ 25 i = if (ac A i).2.2.2 then 1 else 0)
/-- at rest the component holds the least solution -/
theorem INV.lst {Γ : Gam} {σ : mS} (h : INV Γ σ []) (hGB : GB Γ) {x : Nat} (hx : x < 28) : Msk Γ x (σ 1 (ld σ x)) := by
  obtain ⟨⟨w1, w2, w3, w4, w5, w6⟩, hS, hC, hK⟩ := h
  have hf : ∀ n, n < 28 → ld σ n = n → ∀ s, fb σ n s = false := fun n hn hl s => by
    cases hb : fb σ n s
    · rfl
    · exact absurd (w6 n hn hl s hb) List.not_mem_nil
  have hE : ∀ a b, a < 28 → ld σ a = a → Edge σ a b → ∀ s, sb σ a s = true → sb σ b s = true := by
    intro a b ha hla he s hs
    rcases he with e | ⟨m, hm, hg, hl⟩
    · rw [← e]; exact hs
    · rw [← hl]
      exact hK.1 a ha hla m hm hg s hs (hf a ha hla s) (fun _ q => q.elim)
  intro s
  constructor
  · intro hb S hSl
    obtain ⟨s1, s2, -⟩ := hS S hSl
    exact (s1 x hx s).mpr (s2 _ (w1 x hx).2.1 s hb)
  · intro hL
    have := hL (fun y s => y < 28 ∧ sb σ (ld σ y) s = true) ⟨fun v s h => ⟨by have := (hGB.1 v s h).1; omega, hC.1 v s h⟩, fun v w h s hs => ?_, fun p hp s h8 h1 t ht => ?_, fun p hp s h8 h1 t ht => ?_⟩
    · exact this.2
    · have hb := hGB.2.1 v w h
      exact ⟨by omega, hE _ _ (w1 w hs.1).2.1 (w1 w hs.1).2.2 (hC.2 v w h) s hs.2⟩
    · obtain ⟨b1, b2, b3⟩ := hGB.2.2.1 p hp
      obtain ⟨i, hi⟩ := List.getElem?_of_mem hp
      refine ⟨by omega, hE _ _ (w1 _ ht.1).2.1 (w1 _ ht.1).2.2 (hK.2.1 i p hi s h1.2 (hf _ (w1 _ h1.1).2.1 (w1 _ h1.1).2.2 s) (fun _ q => q.elim)) t ht.2⟩
    · obtain ⟨b1, b2, b3⟩ := hGB.2.2.2 p hp
      obtain ⟨i, hi⟩ := List.getElem?_of_mem hp
      refine ⟨fnode_lt h8 b2, hE _ _ (w1 _ ht.1).2.1 (w1 _ ht.1).2.2 (hK.2.2 i p hi s h1.2 (hf _ (w1 _ h1.1).2.1 (w1 _ h1.1).2.2 s) (fun _ q => q.elim)) t ht.2⟩
theorem RepX.mskE {A : AS} {σ : mS} (h : RepX A σ) {x : Nat} (hx : x < 28) : σ 1 (ld σ x) = msk A.1 x := (INV.lst h.2.2.1 h.1.1 hx).eq
theorem RepX.wb {A : AS} {σ : mS} (h : RepX A σ) : Wb σ := h.2.2.1.1.wb
end
section
/-! a constraint put in: the state before solve(), pure; contracts of the public methods that don't walk -/
set_option maxRecDepth 100000
theorem slv_al {Γ : Gam} {v s : Nat} {S : Nat → Nat → Prop} (h : Slv (gAl Γ v s) S) : Slv Γ S := ⟨fun v' s' q => h.1 v' s' (Or.inl q), h.2⟩
theorem slv_cp {Γ : Gam} {v w : Nat} {S : Nat → Nat → Prop} (h : Slv (gCp Γ v w) S) : Slv Γ S := ⟨h.1, fun v' w' q => h.2.1 v' w' (Or.inl q), h.2.2⟩
theorem slv_ld {Γ : Gam} {v w f : Nat} {S : Nat → Nat → Prop} (h : Slv (gLd Γ v w f) S) : Slv Γ S := ⟨h.1, h.2.1, fun p hp => h.2.2.1 p (List.mem_append_left _ hp), h.2.2.2⟩
theorem slv_st {Γ : Gam} {v f w : Nat} {S : Nat → Nat → Prop} (h : Slv (gSt Γ v f w) S) : Slv Γ S := ⟨h.1, h.2.1, h.2.2.1, fun p hp => h.2.2.2 p (List.mem_append_left _ hp)⟩
theorem Inv2.mono {Γ Γ' : Gam} {σ : mS} {q : List Nat} {n : Nat} {X : Nat → Prop} {iL iS iE : Nat} (hs : ∀ S, Slv Γ' S → Slv Γ S) (h : Inv Γ σ q n X iL iS iE) : Inv2 Γ' Γ σ q n X iL iS iE := ⟨h.1, fun S hS => h.2.1 S (hs S hS), h.2.2⟩
theorem Inv2.same7 {Γs Γ : Gam} {σ τ : mS} {q : List Nat} {n : Nat} {X : Nat → Prop} {iL iS iE : Nat} (hk : ∀ k, k < 8 → τ k = σ k) (h : Inv2 Γs Γ σ q n X iL iS iE) : Inv2 Γs Γ τ q n X iL iS iE := by
  have h0 := hk 0 (by decide)
  have h1 := hk 1 (by decide)
  have h2 := hk 2 (by decide)
  have h3 := hk 3 (by decide)
  have h4 := hk 4 (by decide)
  have h5 := hk 5 (by decide)
  have h6 := hk 6 (by decide)
  have h7 := hk 7 (by decide)
  unfold Inv2 WF Sound Cov Clo Edge QR ld sb fb gb at h ⊢
  rw [h0, h1, h2, h3, h4, h5, h6, h7]
  exact h
theorem GB.al {Γ : Gam} (h : GB Γ) {v s : Nat} (hv : v < 12) (hs : s < 8) : GB (gAl Γ v s) := ⟨fun v' s' q => by
  rcases q with q | ⟨e1, e2⟩
  · exact h.1 v' s' q
  · omega, h.2⟩
theorem GB.cp {Γ : Gam} (h : GB Γ) {v w : Nat} (hv : v < 12) (hw : w < 12) : GB (gCp Γ v w) := ⟨h.1, fun v' w' q => by
  rcases q with q | ⟨e1, e2⟩
  · exact h.2.1 v' w' q
  · omega, h.2.2⟩
theorem GB.ld {Γ : Gam} (h : GB Γ) {v w f : Nat} (hv : v < 12) (hw : w < 12) (hf : f < 2) : GB (gLd Γ v w f) := ⟨h.1, h.2.1, fun p hp => by
  rcases List.mem_append.mp hp with q | q
  · exact h.2.2.1 p q
  · rw [List.mem_singleton] at q
    subst q
    exact ⟨hv, hw, hf⟩, h.2.2.2⟩
theorem GB.st {Γ : Gam} (h : GB Γ) {v f w : Nat} (hv : v < 12) (hf : f < 2) (hw : w < 12) : GB (gSt Γ v f w) := ⟨h.1, h.2.1, h.2.2.1, fun p hp => by
  rcases List.mem_append.mp hp with q | q
  · exact h.2.2.2 p q
  · rw [List.mem_singleton] at q
    subst q
    exact ⟨hv, hf, hw⟩⟩
theorem INV.al {Γ : Gam} {σ : mS} (h : INV Γ σ []) {v s : Nat} (hv : v < 12) (hs : s < 8) : ∃ q, INV (gAl Γ v s) (fAdd σ v ((1 : Int32) <<< (nI s &&& 31))) q := by
  have hone : ∀ t, bt ((1 : Int32) <<< (nI s &&& 31)) t = true → t = s := fun t ht => by
    have h32 := zb_lt ht
    rw [zb_one (by omega) h32] at ht
    exact of_decide_eq_true ht
  obtain ⟨q, h1, -, -, h4, h5⟩ := (Inv2.mono (Γ' := gAl Γ v s) (fun S hS => slv_al hS) h).add (x := v) (by omega) (set := (1 : Int32) <<< (nI s &&& 31)) (fun t ht => by rw [hone t ht]; exact hs) (fun S hS t ht => by rw [hone t ht]; exact hS.1 v s (Or.inr ⟨rfl, rfl⟩))
  refine ⟨q, h1.1, h1.2.1, ⟨fun v' s' hq => ?_, h1.2.2.1.2⟩, h1.2.2.2⟩
  rcases hq with hq | ⟨e1, e2⟩
  · exact h1.2.2.1.1 v' s' hq
  · subst e1 e2
    rw [ld_of0 h4.1]
    exact h5 s' (by rw [zb_one (by omega) (by omega)]; simp)
theorem INV.cp {Γ : Gam} {σ : mS} (h : INV Γ σ []) {v w : Nat} (hv : v < 12) (hw : w < 12) : ∃ q, INV (gCp Γ v w) (fEdge σ w v) q := by
  obtain ⟨q, h1, -, -, h4, -, h5⟩ := (Inv2.mono (Γ' := gCp Γ v w) (fun S hS => slv_cp hS) h).edge (x := w) (y := v) (by omega) (by omega) (fun S hS t ht => hS.2.1 v w (Or.inr ⟨rfl, rfl⟩) t ht)
  refine ⟨q, h1.1, h1.2.1, ⟨h1.2.2.1.1, fun v' w' hq => ?_⟩, h1.2.2.2⟩
  rcases hq with hq | ⟨e1, e2⟩
  · exact h1.2.2.1.2 v' w' hq
  · subst e1 e2
    rw [ld_of0 h4.1, ld_of0 h4.1]
    exact h5
theorem INV.lo {Γ : Gam} {σ : mS} (h : INV Γ σ []) {v w f : Nat} (hv : v < 12) (hw : w < 12) (hf : f < 2) : ∃ q, INV (gLd Γ v w f) (fEF σ (σ 1 (ld σ w)) f v 8) q := by
  have hW := h.1
  have hS := h.2.1
  obtain ⟨q, h1, -, -, h4, ho, h5⟩ := (Inv2.mono (Γ' := gLd Γ v w f) (fun S hS => slv_ld hS) h).ef (set := σ 1 (ld σ w)) (f := f) (y := v) hf (by omega) (fun S hSl s hs hb t ht => by
    obtain ⟨s1, s2, -⟩ := hS S (slv_ld hSl)
    exact hSl.2.2.1 (v, w, f) (List.mem_append_right _ (List.mem_singleton.mpr rfl)) s hs ((s1 w (by omega) s).mpr (s2 _ (hW.1 w (by omega)).2.1 s hb)) t ht) 8 (Nat.le_refl 8)
  refine ⟨q, h1.1, h1.2.1, h1.2.2.1, h1.2.2.2.1, fun i p hp s a b hx => ?_, h1.2.2.2.2.2⟩
  have hp : (Γ.2.2.1 ++ [(v, w, f)])[i]? = some p := hp
  rcases Nat.lt_or_ge i Γ.2.2.1.length with hi | hi
  · rw [List.getElem?_append_left hi] at hp
    exact h1.2.2.2.2.1 i p hp s a b (fun _ q => q.elim)
  · rw [List.getElem?_append_right hi] at hp
    have hz : i - Γ.2.2.1.length < 1 := (List.getElem?_eq_some_iff.mp hp).1
    rw [show i - Γ.2.2.1.length = 0 by omega] at hp
    cases hp
    dsimp only at a b ⊢
    rw [ld_of0 h4.1] at a b
    rw [ld_of0 h4.1, ld_of0 h4.1]
    have hb := (ho _ s a b).1
    exact h5 s (hW.2.1 _ (hW.1 w (by omega)).2.1 s hb) hb
theorem INV.so {Γ : Gam} {σ : mS} (h : INV Γ σ []) {v f w : Nat} (hv : v < 12) (hf : f < 2) (hw : w < 12) : ∃ q, INV (gSt Γ v f w) (fET σ (σ 1 (ld σ v)) f w 8) q := by
  have hW := h.1
  have hS := h.2.1
  obtain ⟨q, h1, -, -, h4, ho, h5⟩ := (Inv2.mono (Γ' := gSt Γ v f w) (fun S hS => slv_st hS) h).et (set := σ 1 (ld σ v)) (f := f) (y := w) hf (by omega) (fun S hSl s hs hb t ht => by
    obtain ⟨s1, s2, -⟩ := hS S (slv_st hSl)
    exact hSl.2.2.2 (v, f, w) (List.mem_append_right _ (List.mem_singleton.mpr rfl)) s hs ((s1 v (by omega) s).mpr (s2 _ (hW.1 v (by omega)).2.1 s hb)) t ht) 8 (Nat.le_refl 8)
  refine ⟨q, h1.1, h1.2.1, h1.2.2.1, h1.2.2.2.1, h1.2.2.2.2.1, fun i p hp s a b hx => ?_⟩
  have hp : (Γ.2.2.2 ++ [(v, f, w)])[i]? = some p := hp
  rcases Nat.lt_or_ge i Γ.2.2.2.length with hi | hi
  · rw [List.getElem?_append_left hi] at hp
    exact h1.2.2.2.2.2 i p hp s a b (fun _ q => q.elim)
  · rw [List.getElem?_append_right hi] at hp
    have hz : i - Γ.2.2.2.length < 1 := (List.getElem?_eq_some_iff.mp hp).1
    rw [show i - Γ.2.2.2.length = 0 by omega] at hp
    cases hp
    dsimp only at a b ⊢
    rw [ld_of0 h4.1] at a b
    rw [ld_of0 h4.1, ld_of0 h4.1]
    have hb := (ho _ s a b).1
    exact h5 s (hW.2.1 _ (hW.1 v (by omega)).2.1 s hb) hb
theorem frAdd (σ : mS) (x : Nat) (set : Int32) : Fr σ (fAdd σ x set) := (fAdd_R σ x set).2.2.2.2
theorem frEdge (σ : mS) (x y : Nat) : Fr σ (fEdge σ x y) := by
  unfold fEdge
  split
  · exact Fr.rf σ
  · exact Fr.tr (fun k hk => mU_ne (by omega)) (frAdd _ _ _)
theorem frEF (σ : mS) (set : Int32) (f y : Nat) : ∀ k, Fr σ (fEF σ set f y k)
  | 0 => Fr.rf σ
  | k + 1 => by
    unfold fEF
    split
    · exact (frEF σ set f y k).tr (frEdge _ _ _)
    · exact frEF σ set f y k
theorem frET (σ : mS) (set : Int32) (f y : Nat) : ∀ k, Fr σ (fET σ set f y k)
  | 0 => Fr.rf σ
  | k + 1 => by
    unfold fET
    split
    · exact (frET σ set f y k).tr (frEdge _ _ _)
    · exact frET σ set f y k
/-- what isn't of the constraints stays -/
theorem RepX.next {A : AS} {σ τ : mS} {Γ' : Gam} (h : RepX A σ) (hF : ∀ k, 16 ≤ k → τ k = σ k) (hGB : GB Γ') (hl : Γ'.2.2.1.length ≤ 20) (hs : Γ'.2.2.2.length ≤ 20) (hLR : LR Γ' τ) (hI : INV Γ' τ []) : RepX (Γ', A.2) τ := by
  obtain ⟨⟨-, -, -, a1, a2, a3, a4⟩, -, -, h1, h2, h3⟩ := h
  refine ⟨⟨hGB, hl, hs, a1, a2, a3, a4⟩, hLR, hI, ?_, ⟨?_, fun r hr => ?_⟩, ?_, fun i hi => ?_⟩
  · rw [hF 16 (by decide)]; exact h1
  · rw [hF 17 (by decide)]; exact h2.1
  · rw [hF 18 (by decide), hF 19 (by decide), hF 20 (by decide)]; exact h2.2 r hr
  · rw [hF 21 (by decide)]; exact h3.1
  · rw [hF 22 (by decide), hF 23 (by decide), hF 24 (by decide), hF 25 (by decide)]; exact h3.2 i hi
-- ===== contracts =====
def X0p_badPlace (vs : List Int32) (σ : mS) : Prop := ∃ p n, vs = [p] ∧ n ≤ 12 ∧ σ 17 0 = nI n
def X0q_badPlace (vs : List Int32) (σ : mS) (r : Int32) : Prop := ∀ p n, vs = [p] → n ≤ 12 → σ 17 0 = nI n → (r = 1 ∧ bdN (4 + n) p) ∨ (r = 0 ∧ ∃ j, j < 4 + n ∧ p = nI j)
def X0p_alloc (A : AS) (vs : List Int32) (σ : mS) : Prop := RepX A σ ∧ ∃ v s, vs = [v, s]
def X0q_alloc (A : AS) (vs : List Int32) (_ : mS) (r : Int32) (τ : mS) : Prop := ∀ v s, vs = [v, s] → r = (opAlloc A v s).1 ∧ RepX (opAlloc A v s).2 τ
def X0p_copy (A : AS) (vs : List Int32) (σ : mS) : Prop := RepX A σ ∧ ∃ v w, vs = [v, w]
def X0q_copy (A : AS) (vs : List Int32) (_ : mS) (r : Int32) (τ : mS) : Prop := ∀ v w, vs = [v, w] → r = (opCopy A v w).1 ∧ RepX (opCopy A v w).2 τ
def X0p_load (A : AS) (vs : List Int32) (σ : mS) : Prop := RepX A σ ∧ ∃ v w f, vs = [v, w, f]
def X0q_load (A : AS) (vs : List Int32) (_ : mS) (r : Int32) (τ : mS) : Prop := ∀ v w f, vs = [v, w, f] → r = (opLoad A v w f).1 ∧ RepX (opLoad A v w f).2 τ
def X0p_store (A : AS) (vs : List Int32) (σ : mS) : Prop := RepX A σ ∧ ∃ v f w, vs = [v, f, w]
def X0q_store (A : AS) (vs : List Int32) (_ : mS) (r : Int32) (τ : mS) : Prop := ∀ v f w, vs = [v, f, w] → r = (opStore A v f w).1 ∧ RepX (opStore A v f w).2 τ
def X0p_once (A : AS) (vs : List Int32) (σ : mS) : Prop := RepX A σ ∧ ∃ s b, vs = [s, b]
def X0q_once (A : AS) (vs : List Int32) (_ : mS) (r : Int32) (τ : mS) : Prop := ∀ s b, vs = [s, b] → r = (opOnce A s b).1 ∧ RepX (opOnce A s b).2 τ
def X0p_region (A : AS) (vs : List Int32) (σ : mS) : Prop := RepX A σ ∧ ∃ t v a, vs = [t, v, a]
def X0q_region (A : AS) (vs : List Int32) (_ : mS) (r : Int32) (τ : mS) : Prop := ∀ t v a, vs = [t, v, a] → r = (opRegion A t v a).1 ∧ RepX (opRegion A t v a).2 τ
def X0p_access (A : AS) (vs : List Int32) (σ : mS) : Prop := RepX A σ ∧ ∃ p v f w, vs = [p, v, f, w] ∧ (w = 0 ∨ w = 1)
def X0q_access (A : AS) (vs : List Int32) (_ : mS) (r : Int32) (τ : mS) : Prop := ∀ p v f w, vs = [p, v, f, w] → r = (opAccess A p v f w).1 ∧ RepX (opAccess A p v f w).2 τ
def X0p_pointsTo (A : AS) (vs : List Int32) (σ : mS) : Prop := RepX A σ ∧ ∃ v, vs = [v]
def X0q_pointsTo (A : AS) (vs : List Int32) (_ : mS) (r : Int32) : Prop := ∀ v, vs = [v] → r = ansPoints A v
def X0p_holds (A : AS) (vs : List Int32) (σ : mS) : Prop := RepX A σ ∧ ∃ s f, vs = [s, f]
def X0q_holds (A : AS) (vs : List Int32) (_ : mS) (r : Int32) : Prop := ∀ s f, vs = [s, f] → r = ansHolds A s f
end
section
/-! printed by gen/run.py: programs and verification conditions -/
set_option maxRecDepth 100000
def X0t_badPlace : mT := mTp X0p_badPlace X0q_badPlace
def X0t_alloc : mT := mGi X0p_alloc X0q_alloc
def X0t_copy : mT := mGi X0p_copy X0q_copy
def X0t_load : mT := mGi X0p_load X0q_load
def X0t_store : mT := mGi X0p_store X0q_store
def X0t_once : mT := mGi X0p_once X0q_once
def X0t_region : mT := mGi X0p_region X0q_region
def X0t_access : mT := mGi X0p_access X0q_access
def X0t_pointsTo : mT := mGp X0p_pointsTo X0q_pointsTo
def X0t_holds : mT := mGp X0p_holds X0q_holds
def X0g_badPlace : mP := (X0b_badPlace, flX0, fdX0, some .boolean, [], [])
theorem X0v_badPlace_0 {G : Nat → mL → List mv → mS → Prop} {Q : Option Int32 → mS → Prop} (hG : mCl X0g_badPlace G Q) (v1 : Int32) (σ : mS)
    (h : ((v1 < (0 : Int32) → (((1 : Int32) = 0 ∨ (1 : Int32) = 1) ∧ Q (some 1) σ)) ∧ (¬ v1 < (0 : Int32) → ((v1 < (4 + (σ 17 0)) → (((0 : Int32) = 0 ∨ (0 : Int32) = 1) ∧ Q (some 0) σ)) ∧ (¬ v1 < (4 + (σ 17 0)) → (((1 : Int32) = 0 ∨ (1 : Int32) = 1) ∧ Q (some 1) σ)))))) : G 0 [some (.inr 99), some (.inl v1)] [] σ := hG 11 0 _ _ _ h
def X0g_alloc : mP := (X0b_alloc, flX0, fdX0, some .int, [(134, 1, false, X0t_badVariable), (138, 1, false, X0t_badSite), (91, 2, true, X0t_addSites), (141, 0, true, X0t_solve), (144, 1, false, X0t_bits)], [])
theorem X0v_alloc_0 {G : Nat → mL → List mv → mS → Prop} {Q : Option Int32 → mS → Prop} (hG : mCl X0g_alloc G Q) (v1 v2 : Int32) (σ : mS)
    (h : (X0p_badVariable [v1] σ ∧ ∀ x1 : Int32, X0q_badVariable [v1] σ x1 → ((¬ x1 = (0 : Int32) → Q (some (-1)) σ) ∧ (x1 = (0 : Int32) → (X0p_badSite [v2] σ ∧ ∀ x2 : Int32, X0q_badSite [v2] σ x2 → ((x2 = (0 : Int32) → (X0p_addSites [v1, (1 : Int32) <<< (v2 &&& 31)] σ ∧ ∀ s3 : mS, X0q_addSites [v1, (1 : Int32) <<< (v2 &&& 31)] σ s3 → (∃ g4 : Gam, X0p_solve g4 [] s3 ∧ ∀ s5 : mS, X0q_solve g4 [] s3 s5 → (vp_in v1 28 ∧ ∀ x6 : Int32, x6 = s5 0 v1.toNatClampNeg → (vp_in x6 28 ∧ ∀ x7 : Int32, x7 = s5 1 x6.toNatClampNeg → (X0p_bits [x7] s5 ∧ ∀ x8 : Int32, X0q_bits [x7] s5 x8 → Q (some x8) s5)))))) ∧ (¬ x2 = (0 : Int32) → Q (some (-1)) σ))))))) : G 0 [some (.inr 99), some (.inl v1), some (.inl v2)] [] σ := hG 23 0 _ _ _ h
def X0g_copy : mP := (X0b_copy, flX0, fdX0, some .int, [(134, 1, false, X0t_badVariable), (121, 2, true, X0t_addEdge), (141, 0, true, X0t_solve), (144, 1, false, X0t_bits)], [])
theorem X0v_copy_0 {G : Nat → mL → List mv → mS → Prop} {Q : Option Int32 → mS → Prop} (hG : mCl X0g_copy G Q) (v1 v2 : Int32) (σ : mS)
    (h : (X0p_badVariable [v1] σ ∧ ∀ x1 : Int32, X0q_badVariable [v1] σ x1 → ((¬ x1 = (0 : Int32) → Q (some (-1)) σ) ∧ (x1 = (0 : Int32) → (X0p_badVariable [v2] σ ∧ ∀ x2 : Int32, X0q_badVariable [v2] σ x2 → ((x2 = (0 : Int32) → (X0p_addEdge [v2, v1] σ ∧ ∀ s3 : mS, X0q_addEdge [v2, v1] σ s3 → (∃ g4 : Gam, X0p_solve g4 [] s3 ∧ ∀ s5 : mS, X0q_solve g4 [] s3 s5 → (vp_in v1 28 ∧ ∀ x6 : Int32, x6 = s5 0 v1.toNatClampNeg → (vp_in x6 28 ∧ ∀ x7 : Int32, x7 = s5 1 x6.toNatClampNeg → (X0p_bits [x7] s5 ∧ ∀ x8 : Int32, X0q_bits [x7] s5 x8 → Q (some x8) s5)))))) ∧ (¬ x2 = (0 : Int32) → Q (some (-1)) σ))))))) : G 0 [some (.inr 99), some (.inl v1), some (.inl v2)] [] σ := hG 21 0 _ _ _ h
def X0g_load : mP := (X0b_load, flX0, fdX0, some .int, [(134, 1, false, X0t_badVariable), (147, 1, false, X0t_badField), (104, 3, true, X0t_edgesFromFields), (141, 0, true, X0t_solve), (144, 1, false, X0t_bits)], [])
theorem X0v_load_0 {G : Nat → mL → List mv → mS → Prop} {Q : Option Int32 → mS → Prop} (hG : mCl X0g_load G Q) (v1 v2 v3 : Int32) (σ : mS)
    (h : (X0p_badVariable [v1] σ ∧ ∀ x1 : Int32, X0q_badVariable [v1] σ x1 → ((¬ x1 = (0 : Int32) → Q (some (-1)) σ) ∧ (x1 = (0 : Int32) → (X0p_badVariable [v2] σ ∧ ∀ x2 : Int32, X0q_badVariable [v2] σ x2 → ((¬ x2 = (0 : Int32) → Q (some (-1)) σ) ∧ (x2 = (0 : Int32) → (X0p_badField [v3] σ ∧ ∀ x3 : Int32, X0q_badField [v3] σ x3 → ((x3 = (0 : Int32) → (((σ 8 0) < (20 : Int32) → (vp_in (σ 8 0) 20 ∧ (vp_in (σ 8 0) 20 ∧ (vp_in (σ 8 0) 20 ∧ (vp_in v2 28 ∧ ∀ x4 : Int32, x4 = σ 0 v2.toNatClampNeg → (vp_in x4 28 ∧ ∀ x5 : Int32, x5 = σ 1 x4.toNatClampNeg → (X0p_edgesFromFields [x5, v3, v1] (mU (mU (mU (mU σ 9 (σ 8 0).toNatClampNeg v1) 10 (σ 8 0).toNatClampNeg v2) 11 (σ 8 0).toNatClampNeg v3) 8 0 ((σ 8 0) + 1)) ∧ ∀ s6 : mS, X0q_edgesFromFields [x5, v3, v1] (mU (mU (mU (mU σ 9 (σ 8 0).toNatClampNeg v1) 10 (σ 8 0).toNatClampNeg v2) 11 (σ 8 0).toNatClampNeg v3) 8 0 ((σ 8 0) + 1)) s6 → (∃ g7 : Gam, X0p_solve g7 [] s6 ∧ ∀ s8 : mS, X0q_solve g7 [] s6 s8 → (vp_in v1 28 ∧ ∀ x9 : Int32, x9 = s8 0 v1.toNatClampNeg → (vp_in x9 28 ∧ ∀ x10 : Int32, x10 = s8 1 x9.toNatClampNeg → (X0p_bits [x10] s8 ∧ ∀ x11 : Int32, X0q_bits [x10] s8 x11 → Q (some x11) s8))))))))))) ∧ (¬ (σ 8 0) < (20 : Int32) → Q (some (-2)) σ))) ∧ (¬ x3 = (0 : Int32) → Q (some (-1)) σ)))))))))) : G 0 [some (.inr 99), some (.inl v1), some (.inl v2), some (.inl v3)] [] σ := hG 59 0 _ _ _ h
def X0g_store : mP := (X0b_store, flX0, fdX0, some .int, [(134, 1, false, X0t_badVariable), (147, 1, false, X0t_badField), (111, 3, true, X0t_edgesToFields), (141, 0, true, X0t_solve)], [])
theorem X0v_store_0 {G : Nat → mL → List mv → mS → Prop} {Q : Option Int32 → mS → Prop} (hG : mCl X0g_store G Q) (v1 v2 v3 : Int32) (σ : mS)
    (h : (X0p_badVariable [v1] σ ∧ ∀ x1 : Int32, X0q_badVariable [v1] σ x1 → ((¬ x1 = (0 : Int32) → Q (some (-1)) σ) ∧ (x1 = (0 : Int32) → (X0p_badVariable [v3] σ ∧ ∀ x2 : Int32, X0q_badVariable [v3] σ x2 → ((¬ x2 = (0 : Int32) → Q (some (-1)) σ) ∧ (x2 = (0 : Int32) → (X0p_badField [v2] σ ∧ ∀ x3 : Int32, X0q_badField [v2] σ x3 → ((x3 = (0 : Int32) → (((σ 12 0) < (20 : Int32) → (vp_in (σ 12 0) 20 ∧ (vp_in (σ 12 0) 20 ∧ (vp_in (σ 12 0) 20 ∧ (vp_in v1 28 ∧ ∀ x4 : Int32, x4 = σ 0 v1.toNatClampNeg → (vp_in x4 28 ∧ ∀ x5 : Int32, x5 = σ 1 x4.toNatClampNeg → (X0p_edgesToFields [x5, v2, v3] (mU (mU (mU (mU σ 13 (σ 12 0).toNatClampNeg v1) 14 (σ 12 0).toNatClampNeg v2) 15 (σ 12 0).toNatClampNeg v3) 12 0 ((σ 12 0) + 1)) ∧ ∀ s6 : mS, X0q_edgesToFields [x5, v2, v3] (mU (mU (mU (mU σ 13 (σ 12 0).toNatClampNeg v1) 14 (σ 12 0).toNatClampNeg v2) 15 (σ 12 0).toNatClampNeg v3) 12 0 ((σ 12 0) + 1)) s6 → (∃ g7 : Gam, X0p_solve g7 [] s6 ∧ ∀ s8 : mS, X0q_solve g7 [] s6 s8 → Q (some 0) s8)))))))) ∧ (¬ (σ 12 0) < (20 : Int32) → Q (some (-2)) σ))) ∧ (¬ x3 = (0 : Int32) → Q (some (-1)) σ)))))))))) : G 0 [some (.inr 99), some (.inl v1), some (.inl v2), some (.inl v3)] [] σ := hG 52 0 _ _ _ h
def X0g_once : mP := (X0b_once, flX0, fdX0, some .int, [(138, 1, false, X0t_badSite)], [])
theorem X0v_once_0 {G : Nat → mL → List mv → mS → Prop} {Q : Option Int32 → mS → Prop} (hG : mCl X0g_once G Q) (v1 v2 : Int32) (σ : mS)
    (h : (X0p_badSite [v1] σ ∧ ∀ x1 : Int32, X0q_badSite [v1] σ x1 → ((x1 = (0 : Int32) → ((v2 = (0 : Int32) → Q (some (((σ 16 0) >>> (v1 &&& 31)) &&& 1)) (mU σ 16 0 ((σ 16 0) &&& (((1 : Int32) <<< (v1 &&& 31)) ^^^ (-1))))) ∧ (¬ v2 = (0 : Int32) → Q (some (((σ 16 0) >>> (v1 &&& 31)) &&& 1)) (mU (mU σ 16 0 ((σ 16 0) &&& (((1 : Int32) <<< (v1 &&& 31)) ^^^ (-1)))) 16 0 (((mU σ 16 0 ((σ 16 0) &&& (((1 : Int32) <<< (v1 &&& 31)) ^^^ (-1)))) 16 0) ||| ((1 : Int32) <<< (v1 &&& 31))))))) ∧ (¬ x1 = (0 : Int32) → Q (some (-1)) σ)))) : G 0 [some (.inr 99), some (.inl v1), some (.inl v2), none] [] σ := hG 32 0 _ _ _ h
def X0g_region : mP := (X0b_region, flX0, fdX0, some .int, [(134, 1, false, X0t_badVariable)], [])
theorem X0v_region_0 {G : Nat → mL → List mv → mS → Prop} {Q : Option Int32 → mS → Prop} (hG : mCl X0g_region G Q) (v1 v2 v3 : Int32) (σ : mS)
    (h : ((v1 < (0 : Int32) → Q (some (-1)) σ) ∧ (¬ v1 < (0 : Int32) → (((3 : Int32) < v1 → Q (some (-1)) σ) ∧ (¬ (3 : Int32) < v1 → (X0p_badVariable [v2] σ ∧ ∀ x1 : Int32, X0q_badVariable [v2] σ x1 → ((x1 = (0 : Int32) → ((v3 < ((-1) : Int32) → Q (some (-1)) σ) ∧ (¬ v3 < ((-1) : Int32) → ((v3 < (σ 17 0) → ((v3 < (0 : Int32) → (((σ 17 0) < (12 : Int32) → (vp_in (σ 17 0) 12 ∧ (vp_in (σ 17 0) 12 ∧ (vp_in (σ 17 0) 12 ∧ Q (some (σ 17 0)) (mU (mU (mU (mU σ 18 (σ 17 0).toNatClampNeg v1) 19 (σ 17 0).toNatClampNeg v2) 20 (σ 17 0).toNatClampNeg v3) 17 0 ((σ 17 0) + 1)))))) ∧ (¬ (σ 17 0) < (12 : Int32) → Q (some (-2)) σ))) ∧ (¬ v3 < (0 : Int32) → (vp_in v3 12 ∧ ∀ x2 : Int32, x2 = σ 18 v3.toNatClampNeg → ((x2 = v1 → (((σ 17 0) < (12 : Int32) → (vp_in (σ 17 0) 12 ∧ (vp_in (σ 17 0) 12 ∧ (vp_in (σ 17 0) 12 ∧ Q (some (σ 17 0)) (mU (mU (mU (mU σ 18 (σ 17 0).toNatClampNeg v1) 19 (σ 17 0).toNatClampNeg v2) 20 (σ 17 0).toNatClampNeg v3) 17 0 ((σ 17 0) + 1)))))) ∧ (¬ (σ 17 0) < (12 : Int32) → Q (some (-2)) σ))) ∧ (¬ x2 = v1 → Q (some (-1)) σ)))))) ∧ (¬ v3 < (σ 17 0) → Q (some (-1)) σ))))) ∧ (¬ x1 = (0 : Int32) → Q (some (-1)) σ)))))))) : G 0 [some (.inr 99), some (.inl v1), some (.inl v2), some (.inl v3), none] [] σ := hG 53 0 _ _ _ h
def X0g_access : mP := (X0b_access, flX0, fdX0, some .int, [(156, 1, true, X0t_badPlace), (134, 1, false, X0t_badVariable), (147, 1, false, X0t_badField)], [])
theorem X0v_access_0 {G : Nat → mL → List mv → mS → Prop} {Q : Option Int32 → mS → Prop} (hG : mCl X0g_access G Q) (v1 v2 v3 v4 : Int32) (σ : mS)
    (h : (X0p_badPlace [v1] σ ∧ ∀ x1 : Int32, X0q_badPlace [v1] σ x1 → ((¬ x1 = (0 : Int32) → Q (some (-1)) σ) ∧ (x1 = (0 : Int32) → (X0p_badVariable [v2] σ ∧ ∀ x2 : Int32, X0q_badVariable [v2] σ x2 → ((¬ x2 = (0 : Int32) → Q (some (-1)) σ) ∧ (x2 = (0 : Int32) → (X0p_badField [v3] σ ∧ ∀ x3 : Int32, X0q_badField [v3] σ x3 → ((x3 = (0 : Int32) → (((σ 21 0) < (16 : Int32) → (vp_in (σ 21 0) 16 ∧ (vp_in (σ 21 0) 16 ∧ (vp_in (σ 21 0) 16 ∧ (vp_in (σ 21 0) 16 ∧ Q (some (σ 21 0)) (mU (mU (mU (mU (mU σ 22 (σ 21 0).toNatClampNeg v1) 23 (σ 21 0).toNatClampNeg v2) 24 (σ 21 0).toNatClampNeg v3) 25 (σ 21 0).toNatClampNeg (v4 &&& 1)) 21 0 ((σ 21 0) + 1))))))) ∧ (¬ (σ 21 0) < (16 : Int32) → Q (some (-2)) σ))) ∧ (¬ x3 = (0 : Int32) → Q (some (-1)) σ)))))))))) : G 0 [some (.inr 99), some (.inl v1), some (.inl v2), some (.inl v3), some (.inl v4), none] [] σ := hG 45 0 _ _ _ h
def X0g_pointsTo : mP := (X0b_pointsTo, flX0, fdX0, some .int, [(134, 1, false, X0t_badVariable)], [])
theorem X0v_pointsTo_0 {G : Nat → mL → List mv → mS → Prop} {Q : Option Int32 → mS → Prop} (hG : mCl X0g_pointsTo G Q) (v1 : Int32) (σ : mS)
    (h : (X0p_badVariable [v1] σ ∧ ∀ x1 : Int32, X0q_badVariable [v1] σ x1 → ((x1 = (0 : Int32) → (vp_in v1 28 ∧ ∀ x2 : Int32, x2 = σ 0 v1.toNatClampNeg → (vp_in x2 28 ∧ ∀ x3 : Int32, x3 = σ 1 x2.toNatClampNeg → Q (some x3) σ))) ∧ (¬ x1 = (0 : Int32) → Q (some (-1)) σ)))) : G 0 [some (.inr 99), some (.inl v1)] [] σ := hG 11 0 _ _ _ h
def X0g_holds : mP := (X0b_holds, flX0, fdX0, some .int, [(138, 1, false, X0t_badSite), (147, 1, false, X0t_badField)], [])
theorem X0v_holds_0 {G : Nat → mL → List mv → mS → Prop} {Q : Option Int32 → mS → Prop} (hG : mCl X0g_holds G Q) (v1 v2 : Int32) (σ : mS)
    (h : (X0p_badSite [v1] σ ∧ ∀ x1 : Int32, X0q_badSite [v1] σ x1 → ((¬ x1 = (0 : Int32) → Q (some (-1)) σ) ∧ (x1 = (0 : Int32) → (X0p_badField [v2] σ ∧ ∀ x2 : Int32, X0q_badField [v2] σ x2 → ((x2 = (0 : Int32) → (vp_in ((12 + (2 * v1)) + v2) 28 ∧ ∀ x3 : Int32, x3 = σ 0 ((12 + (2 * v1)) + v2).toNatClampNeg → (vp_in x3 28 ∧ ∀ x4 : Int32, x4 = σ 1 x3.toNatClampNeg → Q (some x4) σ))) ∧ (¬ x2 = (0 : Int32) → Q (some (-1)) σ))))))) : G 0 [some (.inr 99), some (.inl v1), some (.inl v2)] [] σ := hG 20 0 _ _ _ h
end
section
/-! public methods of RaceFinder meet their contracts: constraints, once, regions, accesses, sets -/
set_option maxRecDepth 100000
theorem bd_no {N j : Nat} (hj : j < N) (hN : N < 2 ^ 31) : ¬ bdN N (nI j) := by
  rintro (h | h)
  · exact nI_pos (by omega) h
  · exact nI_ge hj hN h
theorem nv_ix {j : Nat} (hj : j < 2 ^ 31) : nv (nI j) = j := nI_clamp hj
theorem zn_nlt {x y : Int32} (h : ¬ x < y) : y ≤ x := Int32.not_lt.mp h
theorem zn_4 (n : Nat) : (4 : Int32) + nI n = nI (4 + n) := by
  rw [show (4 : Int32) = nI 4 from rfl, nI_add]
theorem X0d_badPlace (G : Nat → mL → List mv → mS → Prop) (Q : Option Int32 → mS → Prop) (vs : List Int32) (σ : mS) (hG : mCl X0g_badPlace G Q) (h : X0t_badPlace vs σ Q) : (vs.length + 1 ≤ 2 ∨ (true = false ∧ vs.length ≤ 2)) ∧ G 0 (mL0 2 true vs) [] σ := by
  obtain ⟨⟨p, n, rfl, hn, e⟩, h⟩ := h
  have hq : ∀ r, ((r = 1 ∧ bdN (4 + n) p) ∨ (r = 0 ∧ ∃ j, j < 4 + n ∧ p = nI j)) → Q (some r) σ := fun r hr => h r fun p' n' e1 e2 e3 => by
    cases e1
    have : n' = n := zn_inj (by omega) (by omega) (e3.symm.trans e)
    subst this
    exact hr
  refine ⟨Or.inl (Nat.le_refl 2), X0v_badPlace_0 hG p σ ⟨fun c => ⟨Or.inr rfl, hq 1 (Or.inl ⟨rfl, Or.inl c⟩)⟩, fun c => ⟨fun d => ⟨Or.inl rfl, hq 0 (Or.inr ⟨rfl, ?_⟩)⟩, fun d => ⟨Or.inr rfl, hq 1 (Or.inl ⟨rfl, Or.inr ?_⟩)⟩⟩⟩⟩
  · rw [e, zn_4] at d
    exact zn_ix (by omega) c (fun q => absurd d (Int32.not_lt.mpr q))
  · rw [e, zn_4] at d
    exact zn_nlt d
theorem r1_ne {r : Int32} (h : r = 1) : ¬ r = 0 := by rw [h]; decide
theorem r0_of {r : Int32} {P : Prop} {R : Prop} (h : (r = 1 ∧ P) ∨ (r = 0 ∧ R)) (h0 : r = 0) : R := by
  rcases h with ⟨h, -⟩ | ⟨-, h⟩
  · exact absurd h0 (r1_ne h)
  · exact h
theorem r1_of {r : Int32} {P : Prop} {R : Prop} (h : (r = 1 ∧ P) ∨ (r = 0 ∧ R)) (h0 : ¬ r = 0) : P := by
  rcases h with ⟨-, h⟩ | ⟨h, -⟩
  · exact h
  · exact absurd h h0
theorem Fr.k16 {σ τ : mS} (h : Fr σ τ) : ∀ k, 16 ≤ k → τ k = σ k := fun k hk => h k (by omega)
theorem X0d_alloc (G : Nat → mL → List mv → mS → Prop) (Q : Option Int32 → mS → Prop) (vs : List Int32) (σ : mS) (hG : mCl X0g_alloc G Q) (h : X0t_alloc vs σ Q) : (vs.length + 1 ≤ 3 ∨ (true = false ∧ vs.length ≤ 3)) ∧ G 0 (mL0 3 true vs) [] σ := by
  obtain ⟨A, ⟨hA, v, s, rfl⟩, h⟩ := h
  have hq : ∀ r τ, r = (opAlloc A v s).1 → RepX (opAlloc A v s).2 τ → Q (some r) τ := fun r τ h1 h2 => h r τ fun v' s' e => by cases e; exact ⟨h1, h2⟩
  unfold opAlloc at hq
  refine ⟨Or.inl (Nat.le_refl 3), X0v_alloc_0 hG v s σ ⟨⟨v, rfl⟩, fun x1 h1 => ⟨fun c => ?_, fun c => ⟨⟨s, rfl⟩, fun x2 h2 => ⟨fun d => ?_, fun d => ?_⟩⟩⟩⟩⟩
  · have hb : bdN 12 v := r1_of (h1 v rfl) c
    rw [if_pos (Or.inl hb)] at hq
    exact hq _ σ rfl hA
  · obtain ⟨i, hi, rfl⟩ := r0_of (h1 v rfl) c
    obtain ⟨j, hj, rfl⟩ := r0_of (h2 s rfl) d
    rw [if_neg (fun q => q.elim (bd_no hi (by decide)) (bd_no hj (by decide))), nv_ix (by omega), nv_ix (by omega)] at hq
    refine ⟨⟨i, _, by omega, rfl, hA.wb⟩, fun s3 h3 => ?_⟩
    have h3 := h3 i _ (by omega) rfl
    have hF3 : Fr σ s3 := by rw [h3]; exact frAdd σ i _
    have hGB := hA.1.1.al hi hj
    have hLR3 : LR (gAl A.1 i j) s3 := hA.2.1.fr hF3
    obtain ⟨q, hI⟩ := INV.al hA.2.2.1 hi hj
    rw [← h3] at hI
    refine ⟨gAl A.1 i j, ⟨rfl, hGB, hLR3, q, hI⟩, fun s5 h5 => ?_⟩
    obtain ⟨h5, hF5⟩ := h5
    have hR5 : RepX (gAl A.1 i j, A.2) s5 := hA.next (hF3.tr hF5).k16 hGB hA.1.2.1 hA.1.2.2.1 (hLR3.fr hF5) h5
    obtain ⟨e6, hl6⟩ := hR5.wb.1 i (by omega)
    refine ⟨zi_in (by omega) (by decide), fun x6 e => ?_⟩
    rw [nI_clamp (by omega), e6] at e
    subst e
    refine ⟨zi_in hl6 (by decide), fun x7 e7 => ⟨⟨x7, rfl⟩, fun x8 h8 => hq x8 s5 ?_ hR5⟩⟩
    rw [nI_clamp (by omega), hR5.mskE (by omega)] at e7
    rw [h8 x7 rfl, e7]
  · have hb : bdN 8 s := r1_of (h2 s rfl) d
    rw [if_pos (Or.inr hb)] at hq
    exact hq _ σ rfl hA
theorem X0d_copy (G : Nat → mL → List mv → mS → Prop) (Q : Option Int32 → mS → Prop) (vs : List Int32) (σ : mS) (hG : mCl X0g_copy G Q) (h : X0t_copy vs σ Q) : (vs.length + 1 ≤ 3 ∨ (true = false ∧ vs.length ≤ 3)) ∧ G 0 (mL0 3 true vs) [] σ := by
  obtain ⟨A, ⟨hA, v, w, rfl⟩, h⟩ := h
  have hq : ∀ r τ, r = (opCopy A v w).1 → RepX (opCopy A v w).2 τ → Q (some r) τ := fun r τ h1 h2 => h r τ fun v' s' e => by cases e; exact ⟨h1, h2⟩
  unfold opCopy at hq
  refine ⟨Or.inl (Nat.le_refl 3), X0v_copy_0 hG v w σ ⟨⟨v, rfl⟩, fun x1 h1 => ⟨fun c => ?_, fun c => ⟨⟨w, rfl⟩, fun x2 h2 => ⟨fun d => ?_, fun d => ?_⟩⟩⟩⟩⟩
  · have hb : bdN 12 v := r1_of (h1 v rfl) c
    rw [if_pos (Or.inl hb)] at hq
    exact hq _ σ rfl hA
  · obtain ⟨i, hi, rfl⟩ := r0_of (h1 v rfl) c
    obtain ⟨j, hj, rfl⟩ := r0_of (h2 w rfl) d
    rw [if_neg (fun q => q.elim (bd_no hi (by decide)) (bd_no hj (by decide))), nv_ix (by omega), nv_ix (by omega)] at hq
    refine ⟨⟨j, i, by omega, by omega, rfl, hA.wb⟩, fun s3 h3 => ?_⟩
    have h3 := h3 j i (by omega) (by omega) rfl
    have hF3 : Fr σ s3 := by rw [h3]; exact frEdge σ j i
    have hGB := hA.1.1.cp hi hj
    have hLR3 : LR (gCp A.1 i j) s3 := hA.2.1.fr hF3
    obtain ⟨q, hI⟩ := INV.cp hA.2.2.1 hi hj
    rw [← h3] at hI
    refine ⟨gCp A.1 i j, ⟨rfl, hGB, hLR3, q, hI⟩, fun s5 h5 => ?_⟩
    obtain ⟨h5, hF5⟩ := h5
    have hR5 : RepX (gCp A.1 i j, A.2) s5 := hA.next (hF3.tr hF5).k16 hGB hA.1.2.1 hA.1.2.2.1 (hLR3.fr hF5) h5
    obtain ⟨e6, hl6⟩ := hR5.wb.1 i (by omega)
    refine ⟨zi_in (by omega) (by decide), fun x6 e => ?_⟩
    rw [nI_clamp (by omega), e6] at e
    subst e
    refine ⟨zi_in hl6 (by decide), fun x7 e7 => ⟨⟨x7, rfl⟩, fun x8 h8 => hq x8 s5 ?_ hR5⟩⟩
    rw [nI_clamp (by omega), hR5.mskE (by omega)] at e7
    rw [h8 x7 rfl, e7]
  · have hb : bdN 12 w := r1_of (h2 w rfl) d
    rw [if_pos (Or.inr hb)] at hq
    exact hq _ σ rfl hA
theorem X0d_load (G : Nat → mL → List mv → mS → Prop) (Q : Option Int32 → mS → Prop) (vs : List Int32) (σ : mS) (hG : mCl X0g_load G Q) (h : X0t_load vs σ Q) : (vs.length + 1 ≤ 4 ∨ (true = false ∧ vs.length ≤ 4)) ∧ G 0 (mL0 4 true vs) [] σ := by
  obtain ⟨A, ⟨hA, v, w, f, rfl⟩, h⟩ := h
  have hq : ∀ r τ, r = (opLoad A v w f).1 → RepX (opLoad A v w f).2 τ → Q (some r) τ := fun r τ h1 h2 => h r τ fun v' s' f' e => by cases e; exact ⟨h1, h2⟩
  unfold opLoad at hq
  refine ⟨Or.inl (Nat.le_refl 4), X0v_load_0 hG v w f σ ⟨⟨v, rfl⟩, fun x1 h1 => ⟨fun c => ?_, fun c => ⟨⟨w, rfl⟩, fun x2 h2 => ⟨fun d => ?_, fun d => ⟨⟨f, rfl⟩, fun x3 h3 => ⟨fun g => ?_, fun g => ?_⟩⟩⟩⟩⟩⟩⟩
  · have hb : bdN 12 v := r1_of (h1 v rfl) c
    rw [if_pos (Or.inl hb)] at hq
    exact hq _ σ rfl hA
  · have hb : bdN 12 w := r1_of (h2 w rfl) d
    rw [if_pos (Or.inr (Or.inl hb))] at hq
    exact hq _ σ rfl hA
  · obtain ⟨i, hi, rfl⟩ := r0_of (h1 v rfl) c
    obtain ⟨j, hj, rfl⟩ := r0_of (h2 w rfl) d
    obtain ⟨k, hk, rfl⟩ := r0_of (h3 f rfl) g
    rw [if_neg (fun q => q.elim (bd_no hi (by decide)) (fun q => q.elim (bd_no hj (by decide)) (bd_no hk (by decide)))), nv_ix (by omega), nv_ix (by omega), nv_ix (by omega)] at hq
    obtain ⟨L1, L2, L3⟩ := hA.2.1.1
    rw [L1]
    refine ⟨fun a => ?_, fun a => ?_⟩
    · have hlen : A.1.2.2.1.length < 20 := by
        rcases Nat.lt_or_ge A.1.2.2.1.length 20 with z | z
        · exact z
        · exact absurd a (Int32.not_lt.mpr (nI_le z (by omega)))
      rw [if_neg (by omega)] at hq
      rw [nI_clamp (n := A.1.2.2.1.length) (by omega), nI_1]
      have hin := zi_in hlen (show 20 < 2 ^ 31 by decide)
      obtain ⟨e4, hl4⟩ := hA.wb.1 j (by omega)
      refine ⟨hin, hin, hin, zi_in (by omega) (by decide), fun x4 e => ?_⟩
      rw [nI_clamp (by omega), e4] at e
      subst e
      refine ⟨zi_in hl4 (by decide), fun x5 e5 => ?_⟩
      rw [nI_clamp (by omega)] at e5
      generalize hσ1 : mU (mU (mU (mU σ 9 A.1.2.2.1.length (nI i)) 10 A.1.2.2.1.length (nI j)) 11 A.1.2.2.1.length (nI k)) 8 0 (nI (A.1.2.2.1.length + 1)) = σ1
      have h8 : ∀ k, k < 8 → σ1 k = σ k := fun k hk => by rw [← hσ1, mU_ne (by omega), mU_ne (by omega), mU_ne (by omega), mU_ne (by omega)]
      have h12 : ∀ k, 12 ≤ k → σ1 k = σ k := fun k hk => by rw [← hσ1, mU_ne (by omega), mU_ne (by omega), mU_ne (by omega), mU_ne (by omega)]
      have hI1 : INV A.1 σ1 [] := Inv2.same7 h8 hA.2.2.1
      have hLR1 : LR (gLd A.1 i j k) σ1 := by
        refine ⟨⟨?_, ?_, fun n p hp => ?_⟩, ?_⟩
        · rw [← hσ1, mU_s]
          show nI (A.1.2.2.1.length + 1) = nI (A.1.2.2.1 ++ [(i, j, k)]).length
          rw [List.length_append, List.length_singleton]
        · show (A.1.2.2.1 ++ [(i, j, k)]).length ≤ 20
          rw [List.length_append, List.length_singleton]
          omega
        · have hp : (A.1.2.2.1 ++ [(i, j, k)])[n]? = some p := hp
          rcases Nat.lt_or_ge n A.1.2.2.1.length with hn | hn
          · rw [List.getElem?_append_left hn] at hp
            rw [← hσ1, mU_o (Or.inl (by decide)), mU_o (Or.inl (by decide)), mU_o (Or.inl (by decide)), mU_o (Or.inr (by omega)), mU_o (Or.inl (by decide)), mU_o (Or.inl (by decide)), mU_o (Or.inr (by omega)), mU_o (Or.inl (by decide)), mU_o (Or.inl (by decide)), mU_o (Or.inr (by omega)), mU_o (Or.inl (by decide)), mU_o (Or.inl (by decide))]
            exact L3 n p hp
          · rw [List.getElem?_append_right hn] at hp
            have hz : n - A.1.2.2.1.length < 1 := (List.getElem?_eq_some_iff.mp hp).1
            have hn2 : n = A.1.2.2.1.length := by omega
            subst hn2
            rw [Nat.sub_self] at hp
            cases hp
            rw [← hσ1]
            refine ⟨?_, ?_, ?_⟩
            · rw [mU_o (Or.inl (by decide)), mU_o (Or.inl (by decide)), mU_o (Or.inl (by decide)), mU_s]
            · rw [mU_o (Or.inl (by decide)), mU_o (Or.inl (by decide)), mU_s]
            · rw [mU_o (Or.inl (by decide)), mU_s]
        · rw [h12 12 (by decide), h12 13 (by decide), h12 14 (by decide), h12 15 (by decide)]
          exact hA.2.1.2
      have hld : ld σ1 j = ld σ j := ld_of0 (h8 0 (by decide)) j
      refine ⟨⟨x5, k, i, hk, by omega, rfl, hI1.1.wb⟩, fun s6 h6 => ?_⟩
      have h6 := h6 x5 k i hk (by omega) rfl
      rw [e5, ← h8 1 (by decide), ← hld] at h6
      have hF6 : Fr σ1 s6 := by rw [h6]; exact frEF σ1 _ k i 8
      have hGB := hA.1.1.ld hi hj hk
      obtain ⟨q, hI⟩ := INV.lo hI1 hi hj hk
      rw [← h6] at hI
      refine ⟨gLd A.1 i j k, ⟨rfl, hGB, hLR1.fr hF6, q, hI⟩, fun s8 h8' => ?_⟩
      obtain ⟨h8', hF8⟩ := h8'
      have hR8 : RepX (gLd A.1 i j k, A.2) s8 := by
        refine hA.next (fun m hm => ?_) hGB ?_ hA.1.2.2.1 ((hLR1.fr hF6).fr hF8) h8'
        · rw [(hF6.tr hF8) m (by omega)]
          exact h12 m (by omega)
        · show (A.1.2.2.1 ++ [(i, j, k)]).length ≤ 20
          rw [List.length_append, List.length_singleton]
          omega
      obtain ⟨e9, hl9⟩ := hR8.wb.1 i (by omega)
      refine ⟨zi_in (by omega) (by decide), fun x9 e => ?_⟩
      rw [nI_clamp (by omega), e9] at e
      subst e
      refine ⟨zi_in hl9 (by decide), fun x10 e10 => ⟨⟨x10, rfl⟩, fun x11 h11 => hq x11 s8 ?_ hR8⟩⟩
      rw [nI_clamp (by omega), hR8.mskE (by omega)] at e10
      rw [h11 x10 rfl, e10]
    · have hlen : 20 ≤ A.1.2.2.1.length := by
        rcases Nat.lt_or_ge A.1.2.2.1.length 20 with z | z
        · exact absurd (nI_lt z (by decide)) a
        · exact z
      rw [if_pos hlen] at hq
      exact hq _ σ rfl hA
  · have hb : bdN 2 f := r1_of (h3 f rfl) g
    rw [if_pos (Or.inr (Or.inr hb))] at hq
    exact hq _ σ rfl hA
end
section
/-! store, pointsTo, holds -/
set_option maxRecDepth 100000
theorem X0d_store (G : Nat → mL → List mv → mS → Prop) (Q : Option Int32 → mS → Prop) (vs : List Int32) (σ : mS) (hG : mCl X0g_store G Q) (h : X0t_store vs σ Q) : (vs.length + 1 ≤ 4 ∨ (true = false ∧ vs.length ≤ 4)) ∧ G 0 (mL0 4 true vs) [] σ := by
  obtain ⟨A, ⟨hA, v, f, w, rfl⟩, h⟩ := h
  have hq : ∀ r τ, r = (opStore A v f w).1 → RepX (opStore A v f w).2 τ → Q (some r) τ := fun r τ h1 h2 => h r τ fun v' s' f' e => by cases e; exact ⟨h1, h2⟩
  unfold opStore at hq
  refine ⟨Or.inl (Nat.le_refl 4), X0v_store_0 hG v f w σ ⟨⟨v, rfl⟩, fun x1 h1 => ⟨fun c => ?_, fun c => ⟨⟨w, rfl⟩, fun x2 h2 => ⟨fun d => ?_, fun d => ⟨⟨f, rfl⟩, fun x3 h3 => ⟨fun g => ?_, fun g => ?_⟩⟩⟩⟩⟩⟩⟩
  · have hb : bdN 12 v := r1_of (h1 v rfl) c
    rw [if_pos (Or.inl hb)] at hq
    exact hq _ σ rfl hA
  · have hb : bdN 12 w := r1_of (h2 w rfl) d
    rw [if_pos (Or.inr (Or.inl hb))] at hq
    exact hq _ σ rfl hA
  · obtain ⟨i, hi, rfl⟩ := r0_of (h1 v rfl) c
    obtain ⟨j, hj, rfl⟩ := r0_of (h2 w rfl) d
    obtain ⟨k, hk, rfl⟩ := r0_of (h3 f rfl) g
    rw [if_neg (fun q => q.elim (bd_no hi (by decide)) (fun q => q.elim (bd_no hj (by decide)) (bd_no hk (by decide)))), nv_ix (by omega), nv_ix (by omega), nv_ix (by omega)] at hq
    obtain ⟨L1, L2, L3⟩ := hA.2.1.2
    rw [L1]
    refine ⟨fun a => ?_, fun a => ?_⟩
    · have hlen : A.1.2.2.2.length < 20 := by
        rcases Nat.lt_or_ge A.1.2.2.2.length 20 with z | z
        · exact z
        · exact absurd a (Int32.not_lt.mpr (nI_le z (by omega)))
      rw [if_neg (by omega)] at hq
      rw [nI_clamp (n := A.1.2.2.2.length) (by omega), nI_1]
      have hin := zi_in hlen (show 20 < 2 ^ 31 by decide)
      obtain ⟨e4, hl4⟩ := hA.wb.1 i (by omega)
      refine ⟨hin, hin, hin, zi_in (by omega) (by decide), fun x4 e => ?_⟩
      rw [nI_clamp (by omega), e4] at e
      subst e
      refine ⟨zi_in hl4 (by decide), fun x5 e5 => ?_⟩
      rw [nI_clamp (by omega)] at e5
      generalize hσ1 : mU (mU (mU (mU σ 13 A.1.2.2.2.length (nI i)) 14 A.1.2.2.2.length (nI k)) 15 A.1.2.2.2.length (nI j)) 12 0 (nI (A.1.2.2.2.length + 1)) = σ1
      have h8 : ∀ k, k < 8 → σ1 k = σ k := fun k hk => by rw [← hσ1, mU_ne (by omega), mU_ne (by omega), mU_ne (by omega), mU_ne (by omega)]
      have h12 : ∀ k, k < 12 ∨ 16 ≤ k → σ1 k = σ k := fun k hk => by rw [← hσ1, mU_ne (by omega), mU_ne (by omega), mU_ne (by omega), mU_ne (by omega)]
      have hI1 : INV A.1 σ1 [] := Inv2.same7 h8 hA.2.2.1
      have hLR1 : LR (gSt A.1 i k j) σ1 := by
        refine ⟨?_, ?_, ?_, fun n p hp => ?_⟩
        · rw [h12 8 (by omega), h12 9 (by omega), h12 10 (by omega), h12 11 (by omega)]
          exact hA.2.1.1
        · rw [← hσ1, mU_s]
          show nI (A.1.2.2.2.length + 1) = nI (A.1.2.2.2 ++ [(i, k, j)]).length
          rw [List.length_append, List.length_singleton]
        · show (A.1.2.2.2 ++ [(i, k, j)]).length ≤ 20
          rw [List.length_append, List.length_singleton]
          omega
        · have hp : (A.1.2.2.2 ++ [(i, k, j)])[n]? = some p := hp
          rcases Nat.lt_or_ge n A.1.2.2.2.length with hn | hn
          · rw [List.getElem?_append_left hn] at hp
            rw [← hσ1, mU_o (Or.inl (by decide)), mU_o (Or.inl (by decide)), mU_o (Or.inl (by decide)), mU_o (Or.inr (by omega)), mU_o (Or.inl (by decide)), mU_o (Or.inl (by decide)), mU_o (Or.inr (by omega)), mU_o (Or.inl (by decide)), mU_o (Or.inl (by decide)), mU_o (Or.inr (by omega)), mU_o (Or.inl (by decide)), mU_o (Or.inl (by decide))]
            exact L3 n p hp
          · rw [List.getElem?_append_right hn] at hp
            have hz : n - A.1.2.2.2.length < 1 := (List.getElem?_eq_some_iff.mp hp).1
            have hn2 : n = A.1.2.2.2.length := by omega
            subst hn2
            rw [Nat.sub_self] at hp
            cases hp
            rw [← hσ1]
            refine ⟨?_, ?_, ?_⟩
            · rw [mU_o (Or.inl (by decide)), mU_o (Or.inl (by decide)), mU_o (Or.inl (by decide)), mU_s]
            · rw [mU_o (Or.inl (by decide)), mU_o (Or.inl (by decide)), mU_s]
            · rw [mU_o (Or.inl (by decide)), mU_s]
      have hld : ld σ1 i = ld σ i := ld_of0 (h8 0 (by decide)) i
      refine ⟨⟨x5, k, j, hk, by omega, rfl, hI1.1.wb⟩, fun s6 h6 => ?_⟩
      have h6 := h6 x5 k j hk (by omega) rfl
      rw [e5, ← h8 1 (by decide), ← hld] at h6
      have hF6 : Fr σ1 s6 := by rw [h6]; exact frET σ1 _ k j 8
      have hGB := hA.1.1.st hi hk hj
      obtain ⟨q, hI⟩ := INV.so hI1 hi hk hj
      rw [← h6] at hI
      refine ⟨gSt A.1 i k j, ⟨rfl, hGB, hLR1.fr hF6, q, hI⟩, fun s8 h8' => ?_⟩
      obtain ⟨h8', hF8⟩ := h8'
      refine hq 0 s8 rfl ?_
      refine hA.next (fun m hm => ?_) hGB hA.1.2.1 ?_ ((hLR1.fr hF6).fr hF8) h8'
      · rw [(hF6.tr hF8) m (by omega)]
        exact h12 m (by omega)
      · show (A.1.2.2.2 ++ [(i, k, j)]).length ≤ 20
        rw [List.length_append, List.length_singleton]
        omega
    · have hlen : 20 ≤ A.1.2.2.2.length := by
        rcases Nat.lt_or_ge A.1.2.2.2.length 20 with z | z
        · exact absurd (nI_lt z (by decide)) a
        · exact z
      rw [if_pos hlen] at hq
      exact hq _ σ rfl hA
  · have hb : bdN 2 f := r1_of (h3 f rfl) g
    rw [if_pos (Or.inr (Or.inr hb))] at hq
    exact hq _ σ rfl hA
theorem X0d_pointsTo (G : Nat → mL → List mv → mS → Prop) (Q : Option Int32 → mS → Prop) (vs : List Int32) (σ : mS) (hG : mCl X0g_pointsTo G Q) (h : X0t_pointsTo vs σ Q) : (vs.length + 1 ≤ 2 ∨ (true = false ∧ vs.length ≤ 2)) ∧ G 0 (mL0 2 true vs) [] σ := by
  obtain ⟨A, ⟨hA, v, rfl⟩, h⟩ := h
  have hq : Q (some (ansPoints A v)) σ := h _ fun v' e => by cases e; rfl
  unfold ansPoints at hq
  refine ⟨Or.inl (Nat.le_refl 2), X0v_pointsTo_0 hG v σ ⟨⟨v, rfl⟩, fun x1 h1 => ⟨fun c => ?_, fun c => ?_⟩⟩⟩
  · obtain ⟨i, hi, rfl⟩ := r0_of (h1 v rfl) c
    rw [if_neg (bd_no hi (by decide)), nv_ix (by omega)] at hq
    obtain ⟨e2, hl2⟩ := hA.wb.1 i (by omega)
    refine ⟨zi_in (by omega) (by decide), fun x2 e => ?_⟩
    rw [nI_clamp (by omega), e2] at e
    subst e
    refine ⟨zi_in hl2 (by decide), fun x3 e3 => ?_⟩
    rw [nI_clamp (by omega), hA.mskE (by omega)] at e3
    rw [e3]
    exact hq
  · have hb : bdN 12 v := r1_of (h1 v rfl) c
    rw [if_pos hb] at hq
    exact hq
theorem X0d_holds (G : Nat → mL → List mv → mS → Prop) (Q : Option Int32 → mS → Prop) (vs : List Int32) (σ : mS) (hG : mCl X0g_holds G Q) (h : X0t_holds vs σ Q) : (vs.length + 1 ≤ 3 ∨ (true = false ∧ vs.length ≤ 3)) ∧ G 0 (mL0 3 true vs) [] σ := by
  obtain ⟨A, ⟨hA, s, f, rfl⟩, h⟩ := h
  have hq : Q (some (ansHolds A s f)) σ := h _ fun v' f' e => by cases e; rfl
  unfold ansHolds at hq
  refine ⟨Or.inl (Nat.le_refl 3), X0v_holds_0 hG s f σ ⟨⟨s, rfl⟩, fun x1 h1 => ⟨fun c => ?_, fun c => ⟨⟨f, rfl⟩, fun x2 h2 => ⟨fun d => ?_, fun d => ?_⟩⟩⟩⟩⟩
  · have hb : bdN 8 s := r1_of (h1 s rfl) c
    rw [if_pos (Or.inl hb)] at hq
    exact hq
  · obtain ⟨i, hi, rfl⟩ := r0_of (h1 s rfl) c
    obtain ⟨j, hj, rfl⟩ := r0_of (h2 f rfl) d
    rw [if_neg (fun q => q.elim (bd_no hi (by decide)) (bd_no hj (by decide))), nv_ix (by omega), nv_ix (by omega)] at hq
    have hfn := fnode_lt hi hj
    rw [zn_fnode]
    obtain ⟨e2, hl2⟩ := hA.wb.1 _ hfn
    refine ⟨zi_in hfn (by decide), fun x3 e => ?_⟩
    rw [nI_clamp (by omega), e2] at e
    subst e
    refine ⟨zi_in hl2 (by decide), fun x4 e4 => ?_⟩
    rw [nI_clamp (by omega), hA.mskE hfn] at e4
    rw [e4]
    exact hq
  · have hb : bdN 2 f := r1_of (h2 f rfl) d
    rw [if_pos (Or.inr hb)] at hq
    exact hq
end
section
/-! once, region, access -/
set_option maxRecDepth 100000
theorem RepX.core {A : AS} {σ τ : mS} (h : RepX A σ) (hk : ∀ k, k < 16 → τ k = σ k) : LR A.1 τ ∧ INV A.1 τ [] := by
  refine ⟨?_, Inv2.same7 (fun k hk8 => hk k (by omega)) h.2.2.1⟩
  unfold LR
  rw [hk 8 (by decide), hk 9 (by decide), hk 10 (by decide), hk 11 (by decide), hk 12 (by decide), hk 13 (by decide), hk 14 (by decide), hk 15 (by decide)]
  exact h.2.1
theorem zn_gt3 {v : Int32} (h : (3 : Int32) < v) : nI 4 ≤ v := by
  rw [fa_lt] at h
  rw [fa_le]
  have e1 : (3 : Int32).toInt = 3 := by decide
  have e2 : (nI 4).toInt = 4 := by decide
  rw [e1] at h
  rw [e2]
  omega
theorem zn_le3 {v : Int32} (h0 : ¬ v < 0) (h : ¬ (3 : Int32) < v) : ∃ j, j < 4 ∧ v = nI j := by
  obtain ⟨j, hj, e⟩ := nI_of2 (n := 3) (by decide) h0 (Int32.not_lt.mp h)
  exact ⟨j, by omega, e⟩
theorem zn_m1' {v : Int32} (h0 : v < 0) (h : ¬ v < (-1 : Int32)) : v = -1 := by
  rw [fa_lt] at h0 h
  rw [fa_eq]
  have e1 : (-1 : Int32).toInt = -1 := by decide
  have e2 : (0 : Int32).toInt = 0 := by decide
  rw [e2] at h0
  rw [e1] at h ⊢
  omega
theorem X0d_once (G : Nat → mL → List mv → mS → Prop) (Q : Option Int32 → mS → Prop) (vs : List Int32) (σ : mS) (hG : mCl X0g_once G Q) (h : X0t_once vs σ Q) : (vs.length + 1 ≤ 4 ∨ (true = false ∧ vs.length ≤ 4)) ∧ G 0 (mL0 4 true vs) [] σ := by
  obtain ⟨A, ⟨hA, s, b, rfl⟩, h⟩ := h
  have hq : ∀ r τ, r = (opOnce A s b).1 → RepX (opOnce A s b).2 τ → Q (some r) τ := fun r τ h1 h2 => h r τ fun v' s' e => by cases e; exact ⟨h1, h2⟩
  unfold opOnce at hq
  refine ⟨Or.inl (Nat.le_of_ble_eq_true rfl), X0v_once_0 hG s b σ ⟨⟨s, rfl⟩, fun x1 h1 => ⟨fun c => ?_, fun c => ?_⟩⟩⟩
  · obtain ⟨j, hj, rfl⟩ := r0_of (h1 s rfl) c
    rw [if_neg (bd_no hj (by decide)), nv_ix (by omega)] at hq
    obtain ⟨a1, a2, a3, a4, a5, a6⟩ := hA
    have hA : RepX A σ := ⟨a1, a2, a3, a4, a5, a6⟩
    have hr : (σ 16 0 >>> (nI j &&& 31)) &&& 1 = if A.2.1 j then 1 else 0 := by
      rw [zb_get _ (by omega), a4, zmask_bt, decide_eq_true hj]
      rfl
    have hbit : ∀ k, bt (σ 16 0) k = (decide (k < 8) && A.2.1 k) := fun k => by rw [a4, zmask_bt]
    have hrep : ∀ m, (∀ k, bt m k = (decide (k < 8) && (if k = j then decide (¬ b = 0) else A.2.1 k))) → ∀ τ : mS, (∀ k, k ≠ 16 → τ k = σ k) → τ 16 0 = m → RepX (A.1, (fun k => if k = j then decide (¬ b = 0) else A.2.1 k), A.2.2) τ := by
      intro m hm τ hk h16
      obtain ⟨c1, c2⟩ := hA.core (τ := τ) (fun k hk16 => hk k (by omega))
      refine ⟨a1, c1, c2, ?_, ⟨?_, fun r hr => ?_⟩, ?_, fun i hi => ?_⟩
      · rw [h16]
        exact zmask_eq hm
      · rw [hk 17 (by decide)]; exact a5.1
      · rw [hk 18 (by decide), hk 19 (by decide), hk 20 (by decide)]; exact a5.2 r hr
      · rw [hk 21 (by decide)]; exact a6.1
      · rw [hk 22 (by decide), hk 23 (by decide), hk 24 (by decide), hk 25 (by decide)]; exact a6.2 i hi
    rw [hr]
    refine ⟨fun d => hq _ _ rfl (hrep _ (fun k => ?_) _ (fun k hk => mU_ne hk) mU_s), fun d => hq _ _ rfl (hrep _ (fun k => ?_) _ (fun k hk => by rw [mU_ne hk, mU_ne hk]) mU_s)⟩
    · rcases Nat.lt_or_ge k 32 with h32 | h32
      · rw [b_and, hbit, zb_not _ h32, zb_one (by omega) h32]
        by_cases e : k = j
        · simp [e, d]
        · simp [e]
      · rw [b_big h32, decide_eq_false (by omega)]
        rfl
    · rw [mU_s]
      rcases Nat.lt_or_ge k 32 with h32 | h32
      · rw [b_or, b_and, hbit, zb_not _ h32, zb_one (by omega) h32]
        by_cases e : k = j
        · simp [e, d, hj]
        · simp [e]
      · rw [b_big h32, decide_eq_false (by omega)]
        rfl
  · have hb : bdN 8 s := r1_of (h1 s rfl) c
    rw [if_pos hb] at hq
    exact hq _ σ rfl hA
theorem gd_l {α : Type} {l : List α} {x d : α} {r : Nat} (h : r < l.length) : (l ++ [x]).getD r d = l.getD r d := by
  rw [List.getD_eq_getElem?_getD, List.getD_eq_getElem?_getD, List.getElem?_append_left h]
theorem gd_r {α : Type} {l : List α} {x d : α} : (l ++ [x]).getD l.length d = x := by
  rw [List.getD_eq_getElem?_getD, List.getElem?_append_right (Nat.le_refl _), Nat.sub_self]
  rfl
theorem RepX.reg {A : AS} {σ : mS} (hA : RepX A σ) {t v : Nat} {a : Option Nat} (ht : t < 4) (hv : v < 12) (ha : ∀ r, a = some r → r < A.2.2.1.length) (hl : A.2.2.1.length < 12) :
    RepX (A.1, A.2.1, A.2.2.1 ++ [(t, v, a)], A.2.2.2) (mU (mU (mU (mU σ 18 A.2.2.1.length (nI t)) 19 A.2.2.1.length (nI v)) 20 A.2.2.1.length (enc a)) 17 0 (nI (A.2.2.1.length + 1))) := by
  obtain ⟨c1, c2⟩ := hA.core (τ := mU (mU (mU (mU σ 18 A.2.2.1.length (nI t)) 19 A.2.2.1.length (nI v)) 20 A.2.2.1.length (enc a)) 17 0 (nI (A.2.2.1.length + 1))) (fun k hk => by rw [mU_ne (by omega), mU_ne (by omega), mU_ne (by omega), mU_ne (by omega)])
  obtain ⟨⟨b1, b2, b3, b4, b5, b6, b7⟩, -, -, a4, a5, a6⟩ := hA
  have hlen : (A.2.2.1 ++ [(t, v, a)]).length = A.2.2.1.length + 1 := by rw [List.length_append, List.length_singleton]
  refine ⟨⟨b1, b2, b3, ?_, b5, fun r hr => ?_, fun i hi => ?_⟩, c1, c2, ?_, ⟨?_, fun r hr => ?_⟩, ?_, fun i hi => ?_⟩
  · show (A.2.2.1 ++ [(t, v, a)]).length ≤ 12
    omega
  · have hr : r < (A.2.2.1 ++ [(t, v, a)]).length := hr
    unfold rg
    dsimp only
    rcases Nat.lt_or_ge r A.2.2.1.length with h | h
    · rw [gd_l h]
      exact b6 r h
    · have e : r = A.2.2.1.length := by omega
      subst e
      rw [gd_r]
      exact ⟨ht, hv, ha⟩
  · obtain ⟨d1, d2⟩ := b7 i hi
    refine ⟨?_, d2⟩
    show (ac A i).1 < 4 + (A.2.2.1 ++ [(t, v, a)]).length
    omega
  · rw [mU_o (Or.inl (by decide)), mU_o (Or.inl (by decide)), mU_o (Or.inl (by decide)), mU_o (Or.inl (by decide))]
    exact a4
  · rw [mU_s]
    show _ = nI (A.2.2.1 ++ [(t, v, a)]).length
    rw [hlen]
  · have hr : r < (A.2.2.1 ++ [(t, v, a)]).length := hr
    unfold rg
    dsimp only
    rcases Nat.lt_or_ge r A.2.2.1.length with h | h
    · rw [gd_l h, mU_o (Or.inl (by decide)), mU_o (Or.inl (by decide)), mU_o (Or.inl (by decide)), mU_o (Or.inr (by omega)), mU_o (Or.inl (by decide)), mU_o (Or.inl (by decide)), mU_o (Or.inr (by omega)), mU_o (Or.inl (by decide)), mU_o (Or.inl (by decide)), mU_o (Or.inr (by omega)), mU_o (Or.inl (by decide)), mU_o (Or.inl (by decide))]
      exact a5.2 r h
    · have e : r = A.2.2.1.length := by omega
      subst e
      rw [gd_r]
      refine ⟨?_, ?_, ?_⟩
      · rw [mU_o (Or.inl (by decide)), mU_o (Or.inl (by decide)), mU_o (Or.inl (by decide)), mU_s]
      · rw [mU_o (Or.inl (by decide)), mU_o (Or.inl (by decide)), mU_s]
      · rw [mU_o (Or.inl (by decide)), mU_s]
  · rw [mU_o (Or.inl (by decide)), mU_o (Or.inl (by decide)), mU_o (Or.inl (by decide)), mU_o (Or.inl (by decide))]
    exact a6.1
  · rw [mU_o (Or.inl (by decide)), mU_o (Or.inl (by decide)), mU_o (Or.inl (by decide)), mU_o (Or.inl (by decide)), mU_o (Or.inl (by decide)), mU_o (Or.inl (by decide)), mU_o (Or.inl (by decide)), mU_o (Or.inl (by decide)), mU_o (Or.inl (by decide)), mU_o (Or.inl (by decide)), mU_o (Or.inl (by decide)), mU_o (Or.inl (by decide)), mU_o (Or.inl (by decide)), mU_o (Or.inl (by decide)), mU_o (Or.inl (by decide)), mU_o (Or.inl (by decide))]
    exact a6.2 i hi
theorem X0d_region (G : Nat → mL → List mv → mS → Prop) (Q : Option Int32 → mS → Prop) (vs : List Int32) (σ : mS) (hG : mCl X0g_region G Q) (h : X0t_region vs σ Q) : (vs.length + 1 ≤ 5 ∨ (true = false ∧ vs.length ≤ 5)) ∧ G 0 (mL0 5 true vs) [] σ := by
  obtain ⟨A, ⟨hA, t, v, a, rfl⟩, h⟩ := h
  have hq : ∀ r τ, r = (opRegion A t v a).1 → RepX (opRegion A t v a).2 τ → Q (some r) τ := fun r τ h1 h2 => h r τ fun v' s' a' e => by cases e; exact ⟨h1, h2⟩
  have e17 := hA.2.2.2.2.1.1
  have hl12 := hA.1.2.2.2.1
  have hbad : (bdN 4 t ∨ bdN 12 v ∨ a < -1 ∨ nI A.2.2.1.length ≤ a ∨ (0 ≤ a ∧ (rg A (nv a)).1 ≠ nv t)) → Q (some (-1)) σ := fun hb => hq _ σ (by unfold opRegion; rw [if_pos hb]) (by unfold opRegion; rw [if_pos hb]; exact hA)
  refine ⟨Or.inl (Nat.le_of_ble_eq_true rfl), X0v_region_0 hG t v a σ ⟨fun c => hbad (Or.inl (Or.inl c)), fun c1 => ⟨fun c => hbad (Or.inl (Or.inr (zn_gt3 c))), fun c2 => ⟨⟨v, rfl⟩, fun x1 h1 => ⟨fun c3 => ⟨fun c => hbad (Or.inr (Or.inr (Or.inl c))), fun c4 => ?_⟩, fun c => hbad (Or.inr (Or.inl (r1_of (h1 v rfl) c)))⟩⟩⟩⟩⟩
  obtain ⟨i, hi, rfl⟩ := zn_le3 c1 c2
  obtain ⟨j, hj, rfl⟩ := r0_of (h1 v rfl) c3
  rw [e17]
  have fin : ∀ ao : Option Nat, enc ao = a → (∀ r, ao = some r → r < A.2.2.1.length) → (if 0 ≤ a then some (nv a) else none) = ao → ¬ (bdN 4 (nI i) ∨ bdN 12 (nI j) ∨ a < -1 ∨ nI A.2.2.1.length ≤ a ∨ (0 ≤ a ∧ (rg A (nv a)).1 ≠ nv (nI i))) →
      ((nI A.2.2.1.length < (12 : Int32) → vp_in (nI A.2.2.1.length) 12 ∧ vp_in (nI A.2.2.1.length) 12 ∧ vp_in (nI A.2.2.1.length) 12 ∧ Q (some (nI A.2.2.1.length)) (mU (mU (mU (mU σ 18 (nI A.2.2.1.length).toNatClampNeg (nI i)) 19 (nI A.2.2.1.length).toNatClampNeg (nI j)) 20 (nI A.2.2.1.length).toNatClampNeg a) 17 0 (nI A.2.2.1.length + 1))) ∧ (¬ nI A.2.2.1.length < (12 : Int32) → Q (some (-2)) σ)) := by
    intro ao he har hao hnb
    refine ⟨fun d => ?_, fun d => ?_⟩
    · have hlen : A.2.2.1.length < 12 := by
        rcases Nat.lt_or_ge A.2.2.1.length 12 with z | z
        · exact z
        · exact absurd d (Int32.not_lt.mpr (nI_le z (by omega)))
      have hin := zi_in hlen (show 12 < 2 ^ 31 by decide)
      have hR := hA.reg hi hj har hlen
      refine ⟨hin, hin, hin, hq _ _ ?_ ?_⟩
      · unfold opRegion
        rw [if_neg hnb, if_neg (by omega)]
      · unfold opRegion
        rw [if_neg hnb, if_neg (by omega), nI_clamp (by omega), nI_1, hao, nv_ix (by omega), nv_ix (by omega), ← he]
        exact hR
    · have hlen : 12 ≤ A.2.2.1.length := by
        rcases Nat.lt_or_ge A.2.2.1.length 12 with z | z
        · exact absurd (nI_lt z (by decide)) d
        · exact z
      refine hq _ σ ?_ ?_
      · unfold opRegion
        rw [if_neg hnb, if_pos hlen]
      · unfold opRegion
        rw [if_neg hnb, if_pos hlen]
        exact hA
  have hb4 := bd_no hi (show 4 < 2 ^ 31 by decide)
  have hb12 := bd_no hj (show 12 < 2 ^ 31 by decide)
  refine ⟨fun c5 => ⟨fun c6 => ?_, fun c6 => ?_⟩, fun c5 => hbad (Or.inr (Or.inr (Or.inr (Or.inl (Int32.not_lt.mp c5)))))⟩
  · refine fin none (zn_m1' c6 c4).symm (fun r e => by cases e) (if_neg (Int32.not_le.mpr c6)) ?_
    rintro (q | q | q | q | q)
    · exact hb4 q
    · exact hb12 q
    · exact c4 q
    · exact absurd c5 (Int32.not_lt.mpr q)
    · exact absurd c6 (Int32.not_lt.mpr q.1)
  · obtain ⟨r, hr, rfl⟩ := zn_ix (N := A.2.2.1.length) (by omega) c6 (fun q => absurd c5 (Int32.not_lt.mpr q))
    refine ⟨zi_in (by omega) (by decide), fun x2 e2 => ?_⟩
    rw [nI_clamp (by omega), (hA.2.2.2.2.1.2 r hr).1] at e2
    subst e2
    have hth := (hA.1.2.2.2.2.2.1 r hr).1
    refine ⟨fun c7 => ?_, fun c7 => ?_⟩
    · refine fin (some r) rfl (fun r' e => by cases e; exact hr) ?_ ?_
      · rw [if_pos (nI_pos' (by omega)), nv_ix (by omega)]
      · rintro (q | q | q | q | q)
        · exact hb4 q
        · exact hb12 q
        · exact c4 q
        · exact absurd c5 (Int32.not_lt.mpr q)
        · rw [nv_ix (by omega), nv_ix (by omega)] at q
          exact q.2 (zn_inj (by omega) (by omega) c7)
    · refine hbad (Or.inr (Or.inr (Or.inr (Or.inr ⟨nI_pos' (by omega), fun q => c7 ?_⟩))))
      rw [nv_ix (by omega), nv_ix (by omega)] at q
      rw [q]
theorem X0d_access (G : Nat → mL → List mv → mS → Prop) (Q : Option Int32 → mS → Prop) (vs : List Int32) (σ : mS) (hG : mCl X0g_access G Q) (h : X0t_access vs σ Q) : (vs.length + 1 ≤ 6 ∨ (true = false ∧ vs.length ≤ 6)) ∧ G 0 (mL0 6 true vs) [] σ := by
  obtain ⟨A, ⟨hA, p, v, f, w, rfl, hw⟩, h⟩ := h
  have hq : ∀ r τ, r = (opAccess A p v f w).1 → RepX (opAccess A p v f w).2 τ → Q (some r) τ := fun r τ h1 h2 => h r τ fun v' s' a' w' e => by cases e; exact ⟨h1, h2⟩
  have e17 := hA.2.2.2.2.1.1
  have e21 := hA.2.2.2.2.2.1
  have hl12 := hA.1.2.2.2.1
  have hl16 := hA.1.2.2.2.2.1
  have hbad : (bdN (4 + A.2.2.1.length) p ∨ bdN 12 v ∨ bdN 2 f) → Q (some (-1)) σ := fun hb => hq _ σ (by unfold opAccess; rw [if_pos hb]) (by unfold opAccess; rw [if_pos hb]; exact hA)
  refine ⟨Or.inl (Nat.le_of_ble_eq_true rfl), X0v_access_0 hG p v f w σ ⟨⟨p, A.2.2.1.length, rfl, hl12, e17⟩, fun x1 h1 => ⟨fun c => hbad (Or.inl (r1_of (h1 p _ rfl hl12 e17) c)), fun c1 => ⟨⟨v, rfl⟩, fun x2 h2 => ⟨fun c => hbad (Or.inr (Or.inl (r1_of (h2 v rfl) c))), fun c2 => ⟨⟨f, rfl⟩, fun x3 h3 => ⟨fun c3 => ?_, fun c => hbad (Or.inr (Or.inr (r1_of (h3 f rfl) c)))⟩⟩⟩⟩⟩⟩⟩
  obtain ⟨i, hi, rfl⟩ := r0_of (h1 p _ rfl hl12 e17) c1
  obtain ⟨j, hj, rfl⟩ := r0_of (h2 v rfl) c2
  obtain ⟨k, hk, rfl⟩ := r0_of (h3 f rfl) c3
  have hnb : ¬ (bdN (4 + A.2.2.1.length) (nI i) ∨ bdN 12 (nI j) ∨ bdN 2 (nI k)) := by
    rintro (q | q | q)
    · exact bd_no hi (by omega) q
    · exact bd_no hj (by decide) q
    · exact bd_no hk (by decide) q
  rw [e21]
  refine ⟨fun d => ?_, fun d => ?_⟩
  · have hlen : A.2.2.2.length < 16 := by
      rcases Nat.lt_or_ge A.2.2.2.length 16 with z | z
      · exact z
      · exact absurd d (Int32.not_lt.mpr (nI_le z (by omega)))
    have hin := zi_in hlen (show 16 < 2 ^ 31 by decide)
    refine ⟨hin, hin, hin, hin, hq _ _ ?_ ?_⟩
    · unfold opAccess
      rw [if_neg hnb, if_neg (by omega)]
    · unfold opAccess
      rw [if_neg hnb, if_neg (by omega), nI_clamp (by omega), nI_1, nv_ix (by omega), nv_ix (by omega), nv_ix (by omega)]
      dsimp only
      have hlen2 : (A.2.2.2 ++ [(i, j, k, decide (¬ w = 0))]).length = A.2.2.2.length + 1 := by rw [List.length_append, List.length_singleton]
      obtain ⟨c1, c2⟩ := hA.core (τ := mU (mU (mU (mU (mU σ 22 A.2.2.2.length (nI i)) 23 A.2.2.2.length (nI j)) 24 A.2.2.2.length (nI k)) 25 A.2.2.2.length (w &&& 1)) 21 0 (nI (A.2.2.2.length + 1))) (fun k hk => by rw [mU_ne (by omega), mU_ne (by omega), mU_ne (by omega), mU_ne (by omega), mU_ne (by omega)])
      obtain ⟨⟨b1, b2, b3, b4, b5, b6, b7⟩, -, -, a4, a5, a6⟩ := hA
      refine ⟨⟨b1, b2, b3, b4, ?_, b6, fun n hn => ?_⟩, c1, c2, ?_, ⟨?_, fun r hr => ?_⟩, ?_, fun n hn => ?_⟩
      · show (A.2.2.2 ++ [(i, j, k, decide (¬ w = 0))]).length ≤ 16
        omega
      · have hn : n < (A.2.2.2 ++ [(i, j, k, decide (¬ w = 0))]).length := hn
        unfold ac
        dsimp only
        rcases Nat.lt_or_ge n A.2.2.2.length with h | h
        · rw [gd_l h]
          exact b7 n h
        · have e : n = A.2.2.2.length := by omega
          subst e
          rw [gd_r]
          exact ⟨hi, hj, hk⟩
      · rw [mU_o (Or.inl (by decide)), mU_o (Or.inl (by decide)), mU_o (Or.inl (by decide)), mU_o (Or.inl (by decide)), mU_o (Or.inl (by decide))]
        exact a4
      · rw [mU_o (Or.inl (by decide)), mU_o (Or.inl (by decide)), mU_o (Or.inl (by decide)), mU_o (Or.inl (by decide)), mU_o (Or.inl (by decide))]
        exact a5.1
      · rw [mU_ne (by decide), mU_ne (by decide), mU_ne (by decide), mU_ne (by decide), mU_ne (by decide), mU_ne (by decide), mU_ne (by decide), mU_ne (by decide), mU_ne (by decide), mU_ne (by decide), mU_ne (by decide), mU_ne (by decide), mU_ne (by decide), mU_ne (by decide), mU_ne (by decide)]
        exact a5.2 r hr
      · rw [mU_s]
        show _ = nI (A.2.2.2 ++ [(i, j, k, decide (¬ w = 0))]).length
        rw [hlen2]
      · have hn : n < (A.2.2.2 ++ [(i, j, k, decide (¬ w = 0))]).length := hn
        unfold ac
        dsimp only
        rcases Nat.lt_or_ge n A.2.2.2.length with h | h
        · obtain ⟨d1, d2, d3, d4⟩ := a6.2 n h
          rw [gd_l h]
          refine ⟨?_, ?_, ?_, ?_⟩
          · rw [mU_o (Or.inl (by decide)), mU_o (Or.inl (by decide)), mU_o (Or.inl (by decide)), mU_o (Or.inl (by decide)), mU_o (Or.inr (by omega))]; exact d1
          · rw [mU_o (Or.inl (by decide)), mU_o (Or.inl (by decide)), mU_o (Or.inl (by decide)), mU_o (Or.inr (by omega)), mU_o (Or.inl (by decide))]; exact d2
          · rw [mU_o (Or.inl (by decide)), mU_o (Or.inl (by decide)), mU_o (Or.inr (by omega)), mU_o (Or.inl (by decide)), mU_o (Or.inl (by decide))]; exact d3
          · rw [mU_o (Or.inl (by decide)), mU_o (Or.inr (by omega)), mU_o (Or.inl (by decide)), mU_o (Or.inl (by decide)), mU_o (Or.inl (by decide))]; exact d4
        · have e : n = A.2.2.2.length := by omega
          subst e
          rw [gd_r]
          refine ⟨?_, ?_, ?_, ?_⟩
          · rw [mU_o (Or.inl (by decide)), mU_o (Or.inl (by decide)), mU_o (Or.inl (by decide)), mU_o (Or.inl (by decide)), mU_s]
          · rw [mU_o (Or.inl (by decide)), mU_o (Or.inl (by decide)), mU_o (Or.inl (by decide)), mU_s]
          · rw [mU_o (Or.inl (by decide)), mU_o (Or.inl (by decide)), mU_s]
          · rw [mU_o (Or.inl (by decide)), mU_s]
            rcases hw with e | e
            · rw [e]
              show (0 &&& 1 : Int32) = if decide (¬ (0 : Int32) = 0) = true then 1 else 0
              decide
            · rw [e]
              show (1 &&& 1 : Int32) = if decide (¬ (1 : Int32) = 0) = true then 1 else 0
              decide
  · have hlen : 16 ≤ A.2.2.2.length := by
      rcases Nat.lt_or_ge A.2.2.2.length 16 with z | z
      · exact absurd (nI_lt z (by decide)) d
      · exact z
    refine hq _ σ ?_ ?_
    · unfold opAccess
      rw [if_neg hnb, if_pos hlen]
    · unfold opAccess
      rw [if_neg hnb, if_pos hlen]
      exact hA
end
section
/-! contracts of RaceFinder's methods on threads, locks held and races -/
set_option maxRecDepth 100000
def X0p_threadOf (A : AS) (vs : List Int32) (σ : mS) : Prop := RepX A σ ∧ ∃ p, p < 4 + A.2.2.1.length ∧ vs = [nI p]
def X0q_threadOf (A : AS) (vs : List Int32) (_ : mS) (r : Int32) : Prop := ∀ p, p < 4 + A.2.2.1.length → vs = [nI p] → r = nI (thr A p)
def X0p_heldAt (A : AS) (vs : List Int32) (σ : mS) : Prop := RepX A σ ∧ ∃ p, p < 4 + A.2.2.1.length ∧ vs = [nI p]
def X0q_heldAt (A : AS) (vs : List Int32) (_ : mS) (r : Int32) : Prop := ∀ p, p < 4 + A.2.2.1.length → vs = [nI p] → r = heldm A p
def X0p_conflict (A : AS) (vs : List Int32) (σ : mS) : Prop := RepX A σ ∧ ∃ i j, i < A.2.2.2.length ∧ j < A.2.2.2.length ∧ vs = [nI i, nI j]
def X0q_conflict (A : AS) (vs : List Int32) (_ : mS) (r : Int32) : Prop := ∀ i j, i < A.2.2.2.length → j < A.2.2.2.length → vs = [nI i, nI j] → r = if conf A i j then 1 else 0
def X0p_race (A : AS) (vs : List Int32) (σ : mS) : Prop := RepX A σ ∧ ∃ i j, vs = [i, j]
def X0q_race (A : AS) (vs : List Int32) (_ : mS) (r : Int32) : Prop := ∀ i j, vs = [i, j] → r = ansRace A i j
def X0p_races (A : AS) (vs : List Int32) (σ : mS) : Prop := RepX A σ ∧ vs = []
def X0q_races (A : AS) (_ : List Int32) (_ : mS) (r : Int32) : Prop := r = ansRaces A
def X0p_held (A : AS) (vs : List Int32) (σ : mS) : Prop := RepX A σ ∧ ∃ p, vs = [p]
def X0q_held (A : AS) (vs : List Int32) (_ : mS) (r : Int32) : Prop := ∀ p, vs = [p] → r = ansHeld A p
end
section
/-! printed by gen/run.py: programs and verification conditions -/
set_option maxRecDepth 100000
def X0t_threadOf : mT := mGp X0p_threadOf X0q_threadOf
def X0t_heldAt : mT := mGp X0p_heldAt X0q_heldAt
def X0t_conflict : mT := mGp X0p_conflict X0q_conflict
def X0t_race : mT := mGp X0p_race X0q_race
def X0t_races : mT := mGp X0p_races X0q_races
def X0t_held : mT := mGp X0p_held X0q_held
def X0g_threadOf : mP := (X0b_threadOf, flX0, fdX0, some .int, [], [])
theorem X0v_threadOf_0 {G : Nat → mL → List mv → mS → Prop} {Q : Option Int32 → mS → Prop} (hG : mCl X0g_threadOf G Q) (v1 : Int32) (σ : mS)
    (h : (((4 : Int32) ≤ v1 → (vp_in (v1 - 4) 12 ∧ ∀ x1 : Int32, x1 = σ 18 (v1 - 4).toNatClampNeg → Q (some x1) σ)) ∧ (¬ (4 : Int32) ≤ v1 → Q (some v1) σ))) : G 0 [some (.inr 99), some (.inl v1)] [] σ := hG 10 0 _ _ _ h
def X0g_heldAt : mP := (X0b_heldAt, flX0, fdX0, some .int, [], [(18, [true, true, true, true, true, false])])
theorem X0v_heldAt_0 {G : Nat → mL → List mv → mS → Prop} {Q : Option Int32 → mS → Prop} (hG : mCl X0g_heldAt G Q) (v1 : Int32) (σ : mS)
    (h : (((4 : Int32) ≤ v1 → G 18 [some (.inr 99), some (.inl v1), some (.inl 0), some (.inl (v1 - 4)), some (.inl 0), none] [] σ) ∧ (¬ (4 : Int32) ≤ v1 → G 18 [some (.inr 99), some (.inl v1), some (.inl 0), some (.inl (-1)), some (.inl 0), none] [] σ))) : G 0 [some (.inr 99), some (.inl v1), none, none, none, none] [] σ := hG 12 0 _ _ _ h
theorem X0v_heldAt_18 {G : Nat → mL → List mv → mS → Prop} {Q : Option Int32 → mS → Prop} (hG : mCl X0g_heldAt G Q) (v1 v2 v3 v4 : Int32) (σ : mS)
    (h : (((12 : Int32) ≤ v4 → Q (some v2) σ) ∧ (¬ (12 : Int32) ≤ v4 → ((v3 < (0 : Int32) → Q (some v2) σ) ∧ (¬ v3 < (0 : Int32) → (vp_in v3 12 ∧ ∀ x1 : Int32, x1 = σ 19 v3.toNatClampNeg → (vp_in x1 28 ∧ ∀ x2 : Int32, x2 = σ 0 x1.toNatClampNeg → (vp_in x2 28 ∧ ∀ x3 : Int32, x3 = σ 1 x2.toNatClampNeg → ((¬ (x3 &&& (x3 - 1)) = (0 : Int32) → (vp_in v3 12 ∧ ∀ x4 : Int32, x4 = σ 20 v3.toNatClampNeg → G 18 [some (.inr 99), some (.inl v1), some (.inl v2), some (.inl x4), some (.inl (v4 + 1)), none] [] σ)) ∧ ((x3 &&& (x3 - 1)) = (0 : Int32) → (vp_in v3 12 ∧ ∀ x5 : Int32, x5 = σ 20 v3.toNatClampNeg → G 18 [some (.inr 99), some (.inl v1), some (.inl (v2 ||| (x3 &&& (σ 16 0)))), some (.inl x5), some (.inl (v4 + 1)), none] [] σ))))))))))) : G 18 [some (.inr 99), some (.inl v1), some (.inl v2), some (.inl v3), some (.inl v4), none] [] σ := hG 37 18 _ _ _ h
def X0g_conflict : mP := (X0b_conflict, flX0, fdX0, some .boolean, [(162, 1, true, X0t_threadOf), (165, 1, true, X0t_heldAt)], [])
theorem X0v_conflict_0 {G : Nat → mL → List mv → mS → Prop} {Q : Option Int32 → mS → Prop} (hG : mCl X0g_conflict G Q) (v1 v2 : Int32) (σ : mS)
    (h : (vp_in v1 16 ∧ ∀ x1 : Int32, x1 = σ 22 v1.toNatClampNeg → (vp_in v2 16 ∧ ∀ x2 : Int32, x2 = σ 22 v2.toNatClampNeg → (∃ g3 : AS, X0p_threadOf g3 [x1] σ ∧ ∀ x4 : Int32, X0q_threadOf g3 [x1] σ x4 → (∃ g5 : AS, X0p_threadOf g5 [x2] σ ∧ ∀ x6 : Int32, X0q_threadOf g5 [x2] σ x6 → ((x4 = x6 → (((0 : Int32) = 0 ∨ (0 : Int32) = 1) ∧ Q (some 0) σ)) ∧ (¬ x4 = x6 → (vp_in v1 16 ∧ ∀ x7 : Int32, x7 = σ 24 v1.toNatClampNeg → (vp_in v2 16 ∧ ∀ x8 : Int32, x8 = σ 24 v2.toNatClampNeg → ((x7 = x8 → (vp_in v1 16 ∧ ∀ x9 : Int32, x9 = σ 25 v1.toNatClampNeg → ((¬ x9 = (0 : Int32) → (vp_in v1 16 ∧ ∀ x10 : Int32, x10 = σ 23 v1.toNatClampNeg → (vp_in x10 28 ∧ ∀ x11 : Int32, x11 = σ 0 x10.toNatClampNeg → (vp_in x11 28 ∧ ∀ x12 : Int32, x12 = σ 1 x11.toNatClampNeg → (vp_in v2 16 ∧ ∀ x13 : Int32, x13 = σ 23 v2.toNatClampNeg → (vp_in x13 28 ∧ ∀ x14 : Int32, x14 = σ 0 x13.toNatClampNeg → (vp_in x14 28 ∧ ∀ x15 : Int32, x15 = σ 1 x14.toNatClampNeg → ((¬ (x12 &&& x15) = (0 : Int32) → (∃ g16 : AS, X0p_heldAt g16 [x1] σ ∧ ∀ x17 : Int32, X0q_heldAt g16 [x1] σ x17 → (∃ g18 : AS, X0p_heldAt g18 [x2] σ ∧ ∀ x19 : Int32, X0q_heldAt g18 [x2] σ x19 → ((¬ (x17 &&& x19) = (0 : Int32) → (((0 : Int32) = 0 ∨ (0 : Int32) = 1) ∧ Q (some 0) σ)) ∧ ((x17 &&& x19) = (0 : Int32) → (((1 : Int32) = 0 ∨ (1 : Int32) = 1) ∧ Q (some 1) σ)))))) ∧ ((x12 &&& x15) = (0 : Int32) → (((0 : Int32) = 0 ∨ (0 : Int32) = 1) ∧ Q (some 0) σ)))))))))) ∧ (x9 = (0 : Int32) → (vp_in v2 16 ∧ ∀ x20 : Int32, x20 = σ 25 v2.toNatClampNeg → ((¬ x20 = (0 : Int32) → (vp_in v1 16 ∧ ∀ x21 : Int32, x21 = σ 23 v1.toNatClampNeg → (vp_in x21 28 ∧ ∀ x22 : Int32, x22 = σ 0 x21.toNatClampNeg → (vp_in x22 28 ∧ ∀ x23 : Int32, x23 = σ 1 x22.toNatClampNeg → (vp_in v2 16 ∧ ∀ x24 : Int32, x24 = σ 23 v2.toNatClampNeg → (vp_in x24 28 ∧ ∀ x25 : Int32, x25 = σ 0 x24.toNatClampNeg → (vp_in x25 28 ∧ ∀ x26 : Int32, x26 = σ 1 x25.toNatClampNeg → ((¬ (x23 &&& x26) = (0 : Int32) → (∃ g27 : AS, X0p_heldAt g27 [x1] σ ∧ ∀ x28 : Int32, X0q_heldAt g27 [x1] σ x28 → (∃ g29 : AS, X0p_heldAt g29 [x2] σ ∧ ∀ x30 : Int32, X0q_heldAt g29 [x2] σ x30 → ((¬ (x28 &&& x30) = (0 : Int32) → (((0 : Int32) = 0 ∨ (0 : Int32) = 1) ∧ Q (some 0) σ)) ∧ ((x28 &&& x30) = (0 : Int32) → (((1 : Int32) = 0 ∨ (1 : Int32) = 1) ∧ Q (some 1) σ)))))) ∧ ((x23 &&& x26) = (0 : Int32) → (((0 : Int32) = 0 ∨ (0 : Int32) = 1) ∧ Q (some 0) σ)))))))))) ∧ (x20 = (0 : Int32) → (((0 : Int32) = 0 ∨ (0 : Int32) = 1) ∧ Q (some 0) σ)))))))) ∧ (¬ x7 = x8 → (((0 : Int32) = 0 ∨ (0 : Int32) = 1) ∧ Q (some 0) σ)))))))))))) : G 0 [some (.inr 99), some (.inl v1), some (.inl v2), none, none, none, none, none, none] [] σ := hG 77 0 _ _ _ h
def X0g_race : mP := (X0b_race, flX0, fdX0, some .boolean, [(168, 2, true, X0t_conflict)], [])
theorem X0v_race_0 {G : Nat → mL → List mv → mS → Prop} {Q : Option Int32 → mS → Prop} (hG : mCl X0g_race G Q) (v1 v2 : Int32) (σ : mS)
    (h : ((v1 < (0 : Int32) → (((0 : Int32) = 0 ∨ (0 : Int32) = 1) ∧ Q (some 0) σ)) ∧ (¬ v1 < (0 : Int32) → (((σ 21 0) ≤ v1 → (((0 : Int32) = 0 ∨ (0 : Int32) = 1) ∧ Q (some 0) σ)) ∧ (¬ (σ 21 0) ≤ v1 → ((v2 < (0 : Int32) → (((0 : Int32) = 0 ∨ (0 : Int32) = 1) ∧ Q (some 0) σ)) ∧ (¬ v2 < (0 : Int32) → ((v2 < (σ 21 0) → (∃ g1 : AS, X0p_conflict g1 [v1, v2] σ ∧ ∀ x2 : Int32, X0q_conflict g1 [v1, v2] σ x2 → (((x2 : Int32) = 0 ∨ (x2 : Int32) = 1) ∧ Q (some x2) σ))) ∧ (¬ v2 < (σ 21 0) → (((0 : Int32) = 0 ∨ (0 : Int32) = 1) ∧ Q (some 0) σ)))))))))) : G 0 [some (.inr 99), some (.inl v1), some (.inl v2)] [] σ := hG 17 0 _ _ _ h
def X0g_races : mP := (X0b_races, flX0, fdX0, some .int, [(168, 2, true, X0t_conflict)], [(4, [true, true, true, false, false]), (16, [true, true, true, true, false])])
theorem X0v_races_0 {G : Nat → mL → List mv → mS → Prop} {Q : Option Int32 → mS → Prop} (hG : mCl X0g_races G Q) (σ : mS)
    (h : G 4 [some (.inr 99), some (.inl 0), some (.inl 0), none, none] [] σ) : G 0 [some (.inr 99), none, none, none, none] [] σ := hG 5 0 _ _ _ h
theorem X0v_races_4 {G : Nat → mL → List mv → mS → Prop} {Q : Option Int32 → mS → Prop} (hG : mCl X0g_races G Q) (v1 v2 : Int32) (σ : mS)
    (h : (((σ 21 0) ≤ v2 → Q (some v1) σ) ∧ (¬ (σ 21 0) ≤ v2 → G 16 [some (.inr 99), some (.inl v1), some (.inl v2), some (.inl (v2 + 1)), none] [] σ))) : G 4 [some (.inr 99), some (.inl v1), some (.inl v2), none, none] [] σ := hG 9 4 _ _ _ h
theorem X0v_races_16 {G : Nat → mL → List mv → mS → Prop} {Q : Option Int32 → mS → Prop} (hG : mCl X0g_races G Q) (v1 v2 v3 : Int32) (σ : mS)
    (h : (((σ 21 0) ≤ v3 → G 4 [some (.inr 99), some (.inl v1), some (.inl (v2 + 1)), none, none] [] σ) ∧ (¬ (σ 21 0) ≤ v3 → (∃ g1 : AS, X0p_conflict g1 [v2, v3] σ ∧ ∀ x2 : Int32, X0q_conflict g1 [v2, v3] σ x2 → ((x2 = (0 : Int32) → G 16 [some (.inr 99), some (.inl v1), some (.inl v2), some (.inl (v3 + 1)), none] [] σ) ∧ (¬ x2 = (0 : Int32) → G 16 [some (.inr 99), some (.inl (v1 + 1)), some (.inl v2), some (.inl (v3 + 1)), none] [] σ)))))) : G 16 [some (.inr 99), some (.inl v1), some (.inl v2), some (.inl v3), none] [] σ := hG 15 16 _ _ _ h
def X0g_held : mP := (X0b_held, flX0, fdX0, some .int, [(156, 1, true, X0t_badPlace), (165, 1, true, X0t_heldAt)], [])
theorem X0v_held_0 {G : Nat → mL → List mv → mS → Prop} {Q : Option Int32 → mS → Prop} (hG : mCl X0g_held G Q) (v1 : Int32) (σ : mS)
    (h : (X0p_badPlace [v1] σ ∧ ∀ x1 : Int32, X0q_badPlace [v1] σ x1 → ((x1 = (0 : Int32) → (∃ g2 : AS, X0p_heldAt g2 [v1] σ ∧ ∀ x3 : Int32, X0q_heldAt g2 [v1] σ x3 → Q (some x3) σ)) ∧ (¬ x1 = (0 : Int32) → Q (some (-1)) σ)))) : G 0 [some (.inr 99), some (.inl v1)] [] σ := hG 8 0 _ _ _ h
end
section
/-! threadOf, heldAt, conflict, race, races, held -/
set_option maxRecDepth 100000
theorem z8_of {x : Int32} (h8 : ∀ s, bt x s = true → s < 8) : ∃ k, k < 256 ∧ x = nI k := by
  obtain ⟨k, hk, e⟩ := pk_andE x (m := 255) 8 (by decide +kernel)
  refine ⟨k, hk, ?_⟩
  rw [← e]
  refine b_ext fun i _ => ?_
  rw [b_and, b_255]
  cases hb : bt x i
  · rfl
  · rw [decide_eq_true (h8 i hb)]
    rfl
theorem z_pow1 : ∀ k, k < 256 → nI k &&& (nI k - 1) = 0 → (nI k = 0 ∨ ∃ s, s < 8 ∧ nI k = (1 : Int32) <<< (nI s &&& 31)) := by decide +kernel
theorem z_pow2 : ∀ s, s < 8 → ((1 : Int32) <<< (nI s &&& 31)) &&& (((1 : Int32) <<< (nI s &&& 31)) - 1) = 0 := by decide +kernel
theorem z_one_inj {s t : Nat} (hs : s < 32) (ht : t < 32) (h : (1 : Int32) <<< (nI s &&& 31) = (1 : Int32) <<< (nI t &&& 31)) : s = t := by
  have h1 := zb_one hs hs
  rw [h, zb_one ht hs] at h1
  have := h1.trans (decide_eq_true (show s = s from rfl))
  exact of_decide_eq_true this
/-- the lock as the component takes it -/
theorem lk_eq {x : Int32} {o : Nat → Bool} (h8 : ∀ s, bt x s = true → s < 8) : (if x &&& (x - 1) = 0 then x &&& zmask o else 0) = zmask (fun s => decide (x = (1 : Int32) <<< (nI s &&& 31)) && o s) := by
  obtain ⟨k, hk, rfl⟩ := z8_of h8
  split
  · rename_i h
    rcases z_pow1 k hk h with e | ⟨s, hs, e⟩
    · rw [e]
      refine zmask_eq fun i => ?_
      rw [b_and, b_0, Bool.false_and]
      rcases Nat.lt_or_ge i 8 with hi | hi
      · have : ¬ (0 : Int32) = (1 : Int32) <<< (nI i &&& 31) := fun q => by
          have h1 := zb_one (n := i) (by omega) (i := i) (by omega)
          rw [← q, b_0] at h1
          simp at h1
        rw [decide_eq_false this]
        simp
      · rw [decide_eq_false (show ¬ i < 8 by omega)]
        rfl
    · rw [e]
      refine zmask_eq fun i => ?_
      rw [b_and, zmask_bt]
      rcases Nat.lt_or_ge i 8 with hi | hi
      · rw [zb_one (by omega) (by omega)]
        by_cases q : i = s
        · subst q
          simp
        · have : ¬ (1 : Int32) <<< (nI s &&& 31) = (1 : Int32) <<< (nI i &&& 31) := fun z => q (z_one_inj (by omega) (by omega) z).symm
          rw [decide_eq_false this, decide_eq_false q]
          simp
      · rw [decide_eq_false (show ¬ i < 8 by omega)]
        simp
  · rename_i h
    refine zmask_eq fun i => ?_
    rw [b_0]
    rcases Nat.lt_or_ge i 8 with hi | hi
    · have : ¬ nI k = (1 : Int32) <<< (nI i &&& 31) := fun q => h (by rw [q]; exact z_pow2 i hi)
      rw [decide_eq_false this]
      simp
    · rw [decide_eq_false (show ¬ i < 8 by omega)]
      rfl
theorem z_sub4 {p : Nat} (h : 4 ≤ p) : nI p - 4 = nI (p - 4) := by
  rw [show (4 : Int32) = nI 4 from rfl, pk_sub h]
theorem RepX.m8 {A : AS} {σ : mS} (h : RepX A σ) {x : Nat} (hx : x < 28) : ∀ s, bt (msk A.1 x) s = true → s < 8 := by
  intro s hs
  rw [← h.mskE hx] at hs
  exact h.2.2.1.1.2.1 _ (h.wb.1 x hx).2 s hs
theorem X0d_threadOf (G : Nat → mL → List mv → mS → Prop) (Q : Option Int32 → mS → Prop) (vs : List Int32) (σ : mS) (hG : mCl X0g_threadOf G Q) (h : X0t_threadOf vs σ Q) : (vs.length + 1 ≤ 2 ∨ (true = false ∧ vs.length ≤ 2)) ∧ G 0 (mL0 2 true vs) [] σ := by
  obtain ⟨A, ⟨hA, p, hp, rfl⟩, h⟩ := h
  have hl12 := hA.1.2.2.2.1
  have hq : Q (some (nI (thr A p))) σ := h _ fun p' hp' e => by
    cases zn_inj (by omega) (by omega) (List.cons.inj e).1
    rfl
  unfold thr at hq
  refine ⟨Or.inl (Nat.le_refl 2), X0v_threadOf_0 hG _ σ ⟨fun c => ?_, fun c => ?_⟩⟩
  · have h4 : 4 ≤ p := by
      rcases Nat.lt_or_ge p 4 with z | z
      · exact zge z (by decide) c
      · exact z
    rw [if_neg (by omega)] at hq
    rw [z_sub4 h4]
    refine ⟨zi_in (by omega) (by decide), fun x1 e1 => ?_⟩
    rw [nI_clamp (by omega), (hA.2.2.2.2.1.2 (p - 4) (by omega)).1] at e1
    rw [e1]
    exact hq
  · have h4 : p < 4 := by
      rcases Nat.lt_or_ge p 4 with z | z
      · exact z
      · exact absurd (nI_le z (by omega)) c
    rw [if_pos h4] at hq
    exact hq
theorem X0d_heldAt (G : Nat → mL → List mv → mS → Prop) (Q : Option Int32 → mS → Prop) (vs : List Int32) (σ : mS) (hG : mCl X0g_heldAt G Q) (h : X0t_heldAt vs σ Q) : (vs.length + 1 ≤ 6 ∨ (true = false ∧ vs.length ≤ 6)) ∧ G 0 (mL0 6 true vs) [] σ := by
  obtain ⟨A, ⟨hA, p, hp, rfl⟩, h⟩ := h
  have hl12 := hA.1.2.2.2.1
  have hq : Q (some (heldm A p)) σ := h _ fun p' hp' e => by
    cases zn_inj (by omega) (by omega) (List.cons.inj e).1
    rfl
  have key := zup (α := Int32 × Option Nat) (N := 12) (H := fun i st => G 18 [some (.inr 99), some (.inl (nI p)), some (.inl st.1), some (.inl (enc st.2)), some (.inl (nI i)), none] [] σ)
    (I := fun i st => heldL A (ancs A (12 - i) st.2) st.1 = heldm A p ∧ ∀ r, st.2 = some r → r < A.2.2.1.length)
    (fun st hst => X0v_heldAt_18 hG _ _ _ _ σ ⟨fun _ => by
      have h1 : heldL A [] st.1 = heldm A p := hst.1
      rw [← h1] at hq
      exact hq, fun c => zle (by decide) c⟩)
    (fun i st hi hst hn => by
      obtain ⟨set, ro⟩ := st
      obtain ⟨h1, h2⟩ := hst
      dsimp only at h1 h2 ⊢
      obtain ⟨k, hk⟩ : ∃ k, 12 - i = k + 1 := ⟨11 - i, by omega⟩
      rw [hk] at h1
      refine X0v_heldAt_18 hG _ _ _ _ σ ⟨fun c => zge hi (by decide) c, fun _ => ⟨fun c => ?_, fun c => ?_⟩⟩
      · cases ro with
        | none =>
          have h1 : set = heldm A p := h1
          rw [h1]
          exact hq
        | some r =>
          have := h2 r rfl
          exact absurd c (nI_pos (by omega))
      · cases ro with
        | none => exact absurd (show enc none < 0 by decide) c
        | some r =>
          have hr := h2 r rfl
          obtain ⟨a1, a2, a3⟩ := hA.1.2.2.2.2.2.1 r hr
          obtain ⟨b1, b2, b3⟩ := hA.2.2.2.2.1.2 r hr
          have h1 : heldL A (ancs A k (rg A r).2.2) (set ||| lkm A r) = heldm A p := h1
          show vp_in (nI r) 12 ∧ _
          refine ⟨zi_in (by omega) (by decide), fun x1 e1 => ?_⟩
          have e1 : x1 = σ 19 (nI r).toNatClampNeg := e1
          rw [nI_clamp (by omega), b2] at e1
          subst e1
          obtain ⟨c1, c2⟩ := hA.wb.1 (rg A r).2.1 (by omega)
          refine ⟨zi_in (by omega) (by decide), fun x2 e2 => ?_⟩
          rw [nI_clamp (by omega), c1] at e2
          subst e2
          refine ⟨zi_in c2 (by decide), fun x3 e3 => ?_⟩
          rw [nI_clamp (by omega), hA.mskE (by omega)] at e3
          have h8 := hA.m8 (x := (rg A r).2.1) (by omega)
          have hlk := lk_eq (o := A.2.1) h8
          have hnx : ∀ set', heldL A (ancs A k (rg A r).2.2) set' = heldm A p → ∀ x4 : Int32, x4 = σ 20 (enc (some r)).toNatClampNeg → G 18 [some (.inr 99), some (.inl (nI p)), some (.inl set'), some (.inl x4), some (.inl (nI i + 1)), none] [] σ := by
            intro set' hs' x4 e4
            have e4 : x4 = σ 20 (nI r).toNatClampNeg := e4
            rw [nI_clamp (by omega), b3] at e4
            subst e4
            have := hn (set', (rg A r).2.2) ⟨by rw [show 12 - (i + 1) = k by omega]; exact hs', fun r' e' => by have := a3 r' e'; omega⟩
            rw [← nI_1] at this
            exact this
          refine ⟨fun d => ⟨zi_in (by omega) (by decide), fun x4 e4 => hnx set ?_ x4 e4⟩, fun d => ⟨zi_in (by omega) (by decide), fun x5 e5 => hnx _ ?_ x5 e5⟩⟩
          · rw [e3] at d
            rw [if_neg d] at hlk
            have hz : lkm A r = 0 := hlk.symm
            rw [hz] at h1
            have ho : set ||| 0 = set := by simp
            rw [ho] at h1
            exact h1
          · rw [e3] at d ⊢
            rw [if_pos d] at hlk
            rw [hA.2.2.2.1, hlk]
            exact h1)
  refine ⟨Or.inl (Nat.le_of_ble_eq_true rfl), X0v_heldAt_0 hG _ σ ⟨fun c => ?_, fun c => ?_⟩⟩
  · have h4 : 4 ≤ p := by
      rcases Nat.lt_or_ge p 4 with z | z
      · exact zge z (by decide) c
      · exact z
    rw [z_sub4 h4]
    refine key 0 (0, some (p - 4)) (by omega) ⟨?_, fun r e => by cases e; omega⟩
    unfold heldm
    rw [if_neg (by omega)]
  · have h4 : p < 4 := by
      rcases Nat.lt_or_ge p 4 with z | z
      · exact z
      · exact absurd (nI_le z (by omega)) c
    refine key 0 (0, none) (by omega) ⟨?_, fun r e => by cases e⟩
    unfold heldm
    rw [if_pos h4]
    rfl
theorem conf_iff (A : AS) (i j : Nat) : conf A i j = true ↔ thr A (ac A i).1 ≠ thr A (ac A j).1 ∧ (ac A i).2.2.1 = (ac A j).2.2.1 ∧ ((ac A i).2.2.2 = true ∨ (ac A j).2.2.2 = true) ∧ ¬ msk A.1 (ac A i).2.1 &&& msk A.1 (ac A j).2.1 = 0 ∧ heldm A (ac A i).1 &&& heldm A (ac A j).1 = 0 := by
  unfold conf
  simp only [Bool.and_eq_true, Bool.or_eq_true, decide_eq_true_eq]
theorem thr_lt {A : AS} (hA : AW A) {p : Nat} (hp : p < 4 + A.2.2.1.length) : thr A p < 4 := by
  unfold thr
  split
  · assumption
  · exact (hA.2.2.2.2.2.1 (p - 4) (by omega)).1
theorem X0d_conflict (G : Nat → mL → List mv → mS → Prop) (Q : Option Int32 → mS → Prop) (vs : List Int32) (σ : mS) (hG : mCl X0g_conflict G Q) (h : X0t_conflict vs σ Q) : (vs.length + 1 ≤ 9 ∨ (true = false ∧ vs.length ≤ 9)) ∧ G 0 (mL0 9 true vs) [] σ := by
  obtain ⟨A, ⟨hA, i, j, hi, hj, rfl⟩, h⟩ := h
  have hl12 := hA.1.2.2.2.1
  have hl16 := hA.1.2.2.2.2.1
  have hq : Q (some (if conf A i j then 1 else 0)) σ := h _ fun i' j' hi' hj' e => by
    obtain ⟨e1, e2⟩ := List.cons.inj e
    obtain ⟨e2, -⟩ := List.cons.inj e2
    cases zn_inj (by omega) (by omega) e1
    cases zn_inj (by omega) (by omega) e2
    rfl
  have hq1 : conf A i j = true → Q (some 1) σ := fun hc => by rw [if_pos hc] at hq; exact hq
  have hq0 : ¬ conf A i j = true → Q (some 0) σ := fun hc => by rw [if_neg hc] at hq; exact hq
  rw [conf_iff] at hq1 hq0
  obtain ⟨pi, vi, fi⟩ := hA.1.2.2.2.2.2.2 i hi
  obtain ⟨pj, vj, fj⟩ := hA.1.2.2.2.2.2.2 j hj
  obtain ⟨i1, i2, i3, i4⟩ := hA.2.2.2.2.2.2 i hi
  obtain ⟨j1, j2, j3, j4⟩ := hA.2.2.2.2.2.2 j hj
  have ci : (nI i).toNatClampNeg = i := nI_clamp (by omega)
  have cj : (nI j).toNatClampNeg = j := nI_clamp (by omega)
  have ni := zi_in (show i < 16 by omega) (show 16 < 2 ^ 31 by decide)
  have nj := zi_in (show j < 16 by omega) (show 16 < 2 ^ 31 by decide)
  have ti := thr_lt hA.1 pi
  have tj := thr_lt hA.1 pj
  refine ⟨Or.inl (Nat.le_of_ble_eq_true rfl), X0v_conflict_0 hG _ _ σ ⟨ni, fun x1 e1 => ⟨nj, fun x2 e2 => ?_⟩⟩⟩
  rw [ci, i1] at e1
  rw [cj, j1] at e2
  subst e1 e2
  refine ⟨A, ⟨hA, _, pi, rfl⟩, fun x4 h4 => ⟨A, ⟨hA, _, pj, rfl⟩, fun x6 h6 => ?_⟩⟩
  have h4 := h4 _ pi rfl
  have h6 := h6 _ pj rfl
  subst h4 h6
  rw [ci, cj]
  have fin : ((ac A i).2.2.1 = (ac A j).2.2.1) → ¬ thr A (ac A i).1 = thr A (ac A j).1 → ((ac A i).2.2.2 = true ∨ (ac A j).2.2.2 = true) → (vp_in (nI i) 16 ∧ ∀ x10 : Int32, x10 = σ 23 i → (vp_in x10 28 ∧ ∀ x11 : Int32, x11 = σ 0 x10.toNatClampNeg → (vp_in x11 28 ∧ ∀ x12 : Int32, x12 = σ 1 x11.toNatClampNeg → (vp_in (nI j) 16 ∧ ∀ x13 : Int32, x13 = σ 23 j → (vp_in x13 28 ∧ ∀ x14 : Int32, x14 = σ 0 x13.toNatClampNeg → (vp_in x14 28 ∧ ∀ x15 : Int32, x15 = σ 1 x14.toNatClampNeg → ((¬ (x12 &&& x15) = (0 : Int32) → (∃ g16 : AS, X0p_heldAt g16 [nI (ac A i).1] σ ∧ ∀ x17 : Int32, X0q_heldAt g16 [nI (ac A i).1] σ x17 → (∃ g18 : AS, X0p_heldAt g18 [nI (ac A j).1] σ ∧ ∀ x19 : Int32, X0q_heldAt g18 [nI (ac A j).1] σ x19 → ((¬ (x17 &&& x19) = (0 : Int32) → (((0 : Int32) = 0 ∨ (0 : Int32) = 1) ∧ Q (some 0) σ)) ∧ ((x17 &&& x19) = (0 : Int32) → (((1 : Int32) = 0 ∨ (1 : Int32) = 1) ∧ Q (some 1) σ)))))) ∧ ((x12 &&& x15) = (0 : Int32) → (((0 : Int32) = 0 ∨ (0 : Int32) = 1) ∧ Q (some 0) σ))))))))) := by
    intro hf ht hw
    refine ⟨ni, fun x10 e10 => ?_⟩
    rw [i2] at e10
    subst e10
    obtain ⟨c1, c2⟩ := hA.wb.1 (ac A i).2.1 (by omega)
    refine ⟨zi_in (by omega) (by decide), fun x11 e11 => ?_⟩
    rw [nI_clamp (by omega), c1] at e11
    subst e11
    refine ⟨zi_in c2 (by decide), fun x12 e12 => ⟨nj, fun x13 e13 => ?_⟩⟩
    rw [nI_clamp (by omega), hA.mskE (by omega)] at e12
    rw [j2] at e13
    subst e12 e13
    obtain ⟨c3, c4⟩ := hA.wb.1 (ac A j).2.1 (by omega)
    refine ⟨zi_in (by omega) (by decide), fun x14 e14 => ?_⟩
    rw [nI_clamp (by omega), c3] at e14
    subst e14
    refine ⟨zi_in c4 (by decide), fun x15 e15 => ?_⟩
    rw [nI_clamp (by omega), hA.mskE (by omega)] at e15
    subst e15
    refine ⟨fun d => ⟨A, ⟨hA, _, pi, rfl⟩, fun x17 h17 => ⟨A, ⟨hA, _, pj, rfl⟩, fun x19 h19 => ?_⟩⟩, fun d => ⟨Or.inl rfl, hq0 (fun q => q.2.2.2.1 d)⟩⟩
    rw [h17 _ pi rfl, h19 _ pj rfl]
    exact ⟨fun z => ⟨Or.inl rfl, hq0 (fun q => z q.2.2.2.2)⟩, fun z => ⟨Or.inr rfl, hq1 ⟨ht, hf, hw, d, z⟩⟩⟩
  refine ⟨fun c => ⟨Or.inl rfl, hq0 (fun q => q.1 (zn_inj (by omega) (by omega) c))⟩, fun c => ⟨ni, fun x7 e7 => ⟨nj, fun x8 e8 => ?_⟩⟩⟩
  rw [i3] at e7
  rw [j3] at e8
  subst e7 e8
  have hth : ¬ thr A (ac A i).1 = thr A (ac A j).1 := fun q => c (by rw [q])
  refine ⟨fun d => ⟨ni, fun x9 e9 => ?_⟩, fun d => ⟨Or.inl rfl, hq0 (fun q => d (by rw [q.2.1]))⟩⟩
  have hf := zn_inj (show (ac A i).2.2.1 < 2 ^ 31 by omega) (by omega) d
  rw [i4] at e9
  refine ⟨fun g => fin hf hth (Or.inl ?_), fun g => ⟨nj, fun x20 e20 => ?_⟩⟩
  · cases hb : (ac A i).2.2.2
    · rw [hb] at e9
      exact absurd e9 g
    · rfl
  · have hwi : (ac A i).2.2.2 = false := by
      cases hb : (ac A i).2.2.2
      · rfl
      · rw [hb] at e9
        rw [e9] at g
        exact absurd g (by decide)
    rw [j4] at e20
    refine ⟨fun g2 => fin hf hth (Or.inr ?_), fun g2 => ⟨Or.inl rfl, hq0 (fun q => ?_)⟩⟩
    · cases hb : (ac A j).2.2.2
      · rw [hb] at e20
        exact absurd e20 g2
      · rfl
    · have hwj : (ac A j).2.2.2 = false := by
        cases hb : (ac A j).2.2.2
        · rfl
        · rw [hb] at e20
          rw [e20] at g2
          exact absurd g2 (by decide)
      rcases q.2.2.1 with z | z
      · rw [hwi] at z; cases z
      · rw [hwj] at z; cases z
theorem X0d_race (G : Nat → mL → List mv → mS → Prop) (Q : Option Int32 → mS → Prop) (vs : List Int32) (σ : mS) (hG : mCl X0g_race G Q) (h : X0t_race vs σ Q) : (vs.length + 1 ≤ 3 ∨ (true = false ∧ vs.length ≤ 3)) ∧ G 0 (mL0 3 true vs) [] σ := by
  obtain ⟨A, ⟨hA, i, j, rfl⟩, h⟩ := h
  have hl16 := hA.1.2.2.2.2.1
  have e21 := hA.2.2.2.2.2.1
  have hq : Q (some (ansRace A i j)) σ := h _ fun i' j' e => by cases e; rfl
  have hbad : (bdN A.2.2.2.length i ∨ bdN A.2.2.2.length j) → ((0 : Int32) = 0 ∨ (0 : Int32) = 1) ∧ Q (some 0) σ := fun hb => ⟨Or.inl rfl, by unfold ansRace at hq; rw [if_pos hb] at hq; exact hq⟩
  refine ⟨Or.inl (Nat.le_refl 3), X0v_race_0 hG i j σ ⟨fun c => hbad (Or.inl (Or.inl c)), fun c1 => ⟨fun c => hbad (Or.inl (Or.inr (by rw [← e21]; exact c))), fun c2 => ⟨fun c => hbad (Or.inr (Or.inl c)), fun c3 => ⟨fun c4 => ?_, fun c => hbad (Or.inr (Or.inr (by rw [← e21]; exact zn_nlt c)))⟩⟩⟩⟩⟩
  rw [e21] at c2 c4
  obtain ⟨a, ha, rfl⟩ := zn_ix (by omega) c1 c2
  obtain ⟨b, hb, rfl⟩ := zn_ix (N := A.2.2.2.length) (by omega) c3 (fun q => absurd c4 (Int32.not_lt.mpr q))
  unfold ansRace at hq
  rw [if_neg (fun q => q.elim (bd_no ha (by omega)) (bd_no hb (by omega))), nv_ix (by omega), nv_ix (by omega)] at hq
  refine ⟨A, ⟨hA, a, b, ha, hb, rfl⟩, fun x2 h2 => ?_⟩
  rw [h2 a b ha hb rfl]
  refine ⟨?_, hq⟩
  split
  · exact Or.inr rfl
  · exact Or.inl rfl
theorem X0d_races (G : Nat → mL → List mv → mS → Prop) (Q : Option Int32 → mS → Prop) (vs : List Int32) (σ : mS) (hG : mCl X0g_races G Q) (h : X0t_races vs σ Q) : (vs.length + 1 ≤ 5 ∨ (true = false ∧ vs.length ≤ 5)) ∧ G 0 (mL0 5 true vs) [] σ := by
  obtain ⟨A, ⟨hA, rfl⟩, h⟩ := h
  have hl16 := hA.1.2.2.2.2.1
  have e21 := hA.2.2.2.2.2.1
  have hq : Q (some (nI (rcs A A.2.2.2.length))) σ := h _ rfl
  have key := zup (α := Unit) (N := A.2.2.2.length) (H := fun i _ => G 4 [some (.inr 99), some (.inl (nI (rcs A i))), some (.inl (nI i)), none, none] [] σ) (I := fun _ _ => True)
    (fun _ _ => X0v_races_4 hG _ _ σ ⟨fun _ => hq, fun c => by rw [e21] at c; exact zle (by omega) c⟩)
    (fun i _ hi _ hn => by
      refine X0v_races_4 hG _ _ σ ⟨fun c => by rw [e21] at c; exact zge hi (by omega) c, fun _ => ?_⟩
      have inner := zup (α := Unit) (N := A.2.2.2.length) (H := fun j _ => G 16 [some (.inr 99), some (.inl (nI (rcs A i + fb_ct (fun j => decide (i < j) && conf A i j) j))), some (.inl (nI i)), some (.inl (nI j)), none] [] σ) (I := fun j _ => i < j)
        (fun _ _ => X0v_races_16 hG _ _ _ σ ⟨fun _ => by
          have := hn () trivial
          rw [← nI_1] at this
          exact this, fun c => by rw [e21] at c; exact zle (by omega) c⟩)
        (fun j _ hj hij hn2 => by
          have hn2 := hn2 () (by omega)
          rw [fb_ct_succ, decide_eq_true hij, ← nI_1] at hn2
          refine X0v_races_16 hG _ _ _ σ ⟨fun c => by rw [e21] at c; exact zge hj (by omega) c, fun _ => ⟨A, ⟨hA, i, j, hi, hj, rfl⟩, fun x2 h2 => ?_⟩⟩
          rw [h2 i j hi hj rfl]
          cases hc : conf A i j
          · rw [hc] at hn2
            exact ⟨fun _ => hn2, fun q => absurd rfl q⟩
          · rw [hc] at hn2
            refine ⟨fun q => absurd q (by decide), fun _ => ?_⟩
            rw [nI_1]
            exact hn2)
      have h0 : fb_ct (fun j => decide (i < j) && conf A i j) (i + 1) = 0 := fb_ct_zero.mpr fun k hk => by
        rw [decide_eq_false (by omega)]
        rfl
      have := inner (i + 1) () (by omega) (by omega)
      rw [h0, Nat.add_zero, ← nI_1] at this
      exact this)
  exact ⟨Or.inl (Nat.le_of_ble_eq_true rfl), X0v_races_0 hG σ (key 0 () (by omega) trivial)⟩
theorem X0d_held (G : Nat → mL → List mv → mS → Prop) (Q : Option Int32 → mS → Prop) (vs : List Int32) (σ : mS) (hG : mCl X0g_held G Q) (h : X0t_held vs σ Q) : (vs.length + 1 ≤ 2 ∨ (true = false ∧ vs.length ≤ 2)) ∧ G 0 (mL0 2 true vs) [] σ := by
  obtain ⟨A, ⟨hA, p, rfl⟩, h⟩ := h
  have hl12 := hA.1.2.2.2.1
  have e17 := hA.2.2.2.2.1.1
  have hq : Q (some (ansHeld A p)) σ := h _ fun p' e => by cases e; rfl
  unfold ansHeld at hq
  refine ⟨Or.inl (Nat.le_refl 2), X0v_held_0 hG p σ ⟨⟨p, _, rfl, hl12, e17⟩, fun x1 h1 => ⟨fun c => ?_, fun c => ?_⟩⟩⟩
  · obtain ⟨i, hi, rfl⟩ := r0_of (h1 p _ rfl hl12 e17) c
    rw [if_neg (bd_no hi (by omega)), nv_ix (by omega)] at hq
    refine ⟨A, ⟨hA, i, hi, rfl⟩, fun x3 h3 => ?_⟩
    rw [h3 i hi rfl]
    exact hq
  · rw [if_pos (r1_of (h1 p _ rfl hl12 e17) c)] at hq
    exact hq
end
section
/-! DEPTH FIRST, pure: a walk's invariant; the order of leaving; strong components -/
set_option maxRecDepth 100000
theorem Rch.rf {E : Nat → Nat → Prop} (a : Nat) : Rch E a a := fun _ h _ => h
theorem Rch.st {E : Nat → Nat → Prop} {a b c : Nat} (h : Rch E a b) (he : E b c) : Rch E a c := fun R h1 h2 => h2 b c (h R h1 h2) he
theorem Rch.tr {E : Nat → Nat → Prop} {a b c : Nat} (h : Rch E a b) (h2 : Rch E b c) : Rch E a c := fun R h3 h4 => h2 R (h R h3 h4) h4
theorem Rch.mono {E E' : Nat → Nat → Prop} (he : ∀ a b, E a b → E' a b) {a b : Nat} (h : Rch E a b) : Rch E' a b := fun R h1 h2 => h R h1 (fun x y hx hxy => h2 x y hx (he x y hxy))
theorem Rch.flip {E : Nat → Nat → Prop} {a b : Nat} (h : Rch E a b) : Rch (fun x y => E y x) b a := by
  refine h (fun z => Rch (fun x y => E y x) z a) (Rch.rf a) (fun x y hx hxy R h1 h2 => ?_)
  exact hx R (h2 y x h1 hxy) h2
/-- walked: before, left, or on the stack -/
def wk (D : Nat → Bool) (l : List (Nat × Nat)) (L : List Nat) (v : Nat) : Prop := D v = true ∨ v ∈ L ∨ v ∈ l.map Prod.fst
/-- the order of leaving so far -/
def JJ (E : Nat → Nat → Prop) (D : Nat → Bool) (F : List Nat) : Prop := F.Nodup ∧ (∀ u ∈ F, u < 8 ∧ D u = true ∧ ∀ w, w < 8 → E u w → D w = true) ∧
  ∀ (i j k u w z : Nat), i ≤ k → k ≤ j → F[i]? = some u → F[j]? = some w → F[k]? = some z → E u w → Rch E w z
/-- the walk's invariant: l the stack, top first, with the next site to look at; L the sites left in this walk; F0 those left before -/
def DI (E : Nat → Nat → Prop) (D : Nat → Bool) (F0 : List Nat) (s0 : Nat) (l : List (Nat × Nat)) (L : List Nat) : Prop :=
  (l.map Prod.fst ++ L).Nodup ∧ (∀ v ∈ l.map Prod.fst ++ L, v < 8 ∧ D v = false ∧ Rch E s0 v) ∧ (∀ p ∈ l, p.2 ≤ 8) ∧
  (l.map Prod.fst).Pairwise (fun x y => Rch E y x) ∧
  (∀ v ∈ L, ∀ w, w < 8 → E v w → wk D l L w) ∧ (∀ p ∈ l, ∀ w, w < p.2 → E p.1 w → wk D l L w) ∧ JJ E D F0 ∧
  (∀ (i u w k z : Nat), L[i]? = some u → w ∈ l.map Prod.fst → E u w → i ≤ k → L[k]? = some z → Rch E w z) ∧
  (∀ (i j k u w z : Nat), i ≤ k → k ≤ j → L[i]? = some u → L[j]? = some w → L[k]? = some z → E u w → Rch E w z) ∧ (s0 ∈ l.map Prod.fst ++ L)
theorem DI.start {E : Nat → Nat → Prop} {D : Nat → Bool} {F0 : List Nat} {s0 : Nat} (hs : s0 < 8) (hD : D s0 = false) (hJ : JJ E D F0) : DI E D F0 s0 [(s0, 0)] [] := by
  refine ⟨by simp, fun v hv => ?_, fun p hp => ?_, by simp, fun v hv => absurd hv List.not_mem_nil, fun p hp w hw => ?_, hJ, fun i u w k z h => by simp at h, fun i j k u w z _ _ h => by simp at h, by simp⟩
  · have e : v = s0 := by simpa using hv
    subst e
    exact ⟨hs, hD, Rch.rf v⟩
  · have e : p = (s0, 0) := by simpa using hp
    subst e
    omega
  · have e : p = (s0, 0) := by simpa using hp
    subst e
    exact absurd hw (Nat.not_lt_zero w)
theorem DI.adv {E : Nat → Nat → Prop} {D : Nat → Bool} {F0 : List Nat} {s0 s n : Nat} {l : List (Nat × Nat)} {L : List Nat} (h : DI E D F0 s0 ((s, n) :: l) L) (hn : n < 8) (hw : E s n → wk D ((s, n) :: l) L n) : DI E D F0 s0 ((s, n + 1) :: l) L := by
  obtain ⟨h1, h2, h3, h4, h5, h6, h7, h8, h9, h10⟩ := h
  refine ⟨h1, h2, fun p hp => ?_, h4, h5, fun p hp w hwp he => ?_, h7, h8, h9, h10⟩
  · rcases List.mem_cons.mp hp with e | e
    · subst e
      show n + 1 ≤ 8
      omega
    · exact h3 p (List.mem_cons_of_mem _ e)
  · rcases List.mem_cons.mp hp with e | e
    · subst e
      dsimp only at hwp he
      rcases Nat.lt_or_ge w n with q | q
      · exact h6 (s, n) List.mem_cons_self w q he
      · have e : w = n := by omega
        subst e
        exact hw he
    · exact h6 p (List.mem_cons_of_mem _ e) w hwp he
theorem DI.push {E : Nat → Nat → Prop} {D : Nat → Bool} {F0 : List Nat} {s0 s n : Nat} {l : List (Nat × Nat)} {L : List Nat} (h : DI E D F0 s0 ((s, n) :: l) L) (hn : n < 8) (he : E s n) (hw : ¬ wk D ((s, n) :: l) L n) : DI E D F0 s0 ((n, 0) :: (s, n + 1) :: l) L := by
  obtain ⟨h1, h2, h3, h4, h5, h6, h7, h8, h9, h10⟩ := h
  have hwk : ∀ w, wk D ((s, n) :: l) L w → wk D ((n, 0) :: (s, n + 1) :: l) L w := by
    intro w q
    rcases q with q | q | q
    · exact Or.inl q
    · exact Or.inr (Or.inl q)
    · exact Or.inr (Or.inr (List.mem_cons_of_mem _ q))
  have hDn : D n = false := by
    cases hb : D n
    · rfl
    · exact absurd (Or.inl hb) hw
  have hnl : n ∉ s :: l.map Prod.fst := fun q => hw (Or.inr (Or.inr q))
  have hnL : n ∉ L := fun q => hw (Or.inr (Or.inl q))
  refine ⟨?_, fun v hv => ?_, fun p hp => ?_, ?_, fun v hv w hw8 hvw => hwk w (h5 v hv w hw8 hvw), fun p hp w hwp hpw => ?_, h7, fun i u w k z a b c d e => ?_, h9, List.mem_cons_of_mem _ h10⟩
  · show (n :: ((s :: l.map Prod.fst) ++ L)).Nodup
    refine List.nodup_cons.mpr ⟨fun q => ?_, h1⟩
    rcases List.mem_append.mp q with q | q
    · exact hnl q
    · exact hnL q
  · have hv : v ∈ n :: ((s :: l.map Prod.fst) ++ L) := hv
    rcases List.mem_cons.mp hv with e | e
    · subst e
      exact ⟨hn, hDn, (h2 s List.mem_cons_self).2.2.st he⟩
    · exact h2 v e
  · rcases List.mem_cons.mp hp with e | e
    · subst e
      exact Nat.zero_le 8
    · rcases List.mem_cons.mp e with e | e
      · subst e
        show n + 1 ≤ 8
        omega
      · exact h3 p (List.mem_cons_of_mem _ e)
  · show (n :: s :: l.map Prod.fst).Pairwise (fun x y => Rch E y x)
    refine List.pairwise_cons.mpr ⟨fun y hy => ?_, h4⟩
    rcases List.mem_cons.mp hy with e | e
    · subst e
      exact (Rch.rf y).st he
    · exact ((List.pairwise_cons.mp h4).1 y e).st he
  · rcases List.mem_cons.mp hp with e | e
    · subst e
      exact absurd hwp (Nat.not_lt_zero w)
    · rcases List.mem_cons.mp e with e | e
      · subst e
        dsimp only at hwp hpw
        rcases Nat.lt_or_ge w n with q | q
        · exact hwk w (h6 (s, n) List.mem_cons_self w q hpw)
        · have e : w = n := by omega
          subst e
          exact Or.inr (Or.inr List.mem_cons_self)
      · exact hwk w (h6 p (List.mem_cons_of_mem _ e) w hwp hpw)
  · have b : w ∈ n :: s :: l.map Prod.fst := b
    rcases List.mem_cons.mp b with q | q
    · subst q
      exact absurd (h5 u (List.mem_of_getElem? a) w hn c) hw
    · exact h8 i u w k z a q c d e
theorem DI.fin {E : Nat → Nat → Prop} {D : Nat → Bool} {F0 : List Nat} {s0 s : Nat} {l : List (Nat × Nat)} {L : List Nat} (h : DI E D F0 s0 ((s, 8) :: l) L) : DI E D F0 s0 l (L ++ [s]) := by
  obtain ⟨h1, h2, h3, h4, h5, h6, h7, h8, h9, h10⟩ := h
  have hmem : ∀ v, v ∈ l.map Prod.fst ++ (L ++ [s]) ↔ v ∈ ((s, 8) :: l).map Prod.fst ++ L := by
    intro v
    simp only [List.mem_append, List.map_cons, List.mem_cons, List.not_mem_nil, or_false]
    constructor
    · rintro (a | a | a)
      · exact Or.inl (Or.inr a)
      · exact Or.inr a
      · exact Or.inl (Or.inl a)
    · rintro ((a | a) | a)
      · exact Or.inr (Or.inr a)
      · exact Or.inl a
      · exact Or.inr (Or.inl a)
  have hwk : ∀ w, wk D ((s, 8) :: l) L w → wk D l (L ++ [s]) w := by
    intro w q
    rcases q with q | q | q
    · exact Or.inl q
    · exact Or.inr (Or.inl (List.mem_append_left _ q))
    · rcases List.mem_cons.mp q with e | e
      · exact Or.inr (Or.inl (List.mem_append_right _ (List.mem_singleton.mpr e)))
      · exact Or.inr (Or.inr e)
  have hlast : ∀ (i u : Nat), (L ++ [s])[i]? = some u → (i < L.length ∧ L[i]? = some u) ∨ (i = L.length ∧ u = s) := by
    intro i u hi
    rcases Nat.lt_or_ge i L.length with q | q
    · rw [List.getElem?_append_left q] at hi
      exact Or.inl ⟨q, hi⟩
    · rw [List.getElem?_append_right q] at hi
      have hz : i - L.length < 1 := (List.getElem?_eq_some_iff.mp hi).1
      rw [show i - L.length = 0 by omega] at hi
      cases hi
      exact Or.inr ⟨by omega, rfl⟩
  have hup : ∀ w ∈ l.map Prod.fst, Rch E w s := (List.pairwise_cons.mp h4).1
  refine ⟨?_, fun v hv => h2 v ((hmem v).mp hv), fun p hp => h3 p (List.mem_cons_of_mem _ hp), (List.pairwise_cons.mp h4).2, fun v hv w hw hvw => ?_, fun p hp w hwp hpw => hwk w (h6 p (List.mem_cons_of_mem _ hp) w hwp hpw), h7, fun i u w k z a b c d e => ?_, fun i j k u w z a b c d e f => ?_, (hmem s0).mpr h10⟩
  · have h1 : (s :: (l.map Prod.fst ++ L)).Nodup := h1
    have hp : (l.map Prod.fst ++ (L ++ [s])).Perm (s :: (l.map Prod.fst ++ L)) := by
      rw [← List.append_assoc]
      exact List.perm_append_singleton s _
    exact hp.nodup_iff.mpr h1
  · rcases List.mem_append.mp hv with q | q
    · exact hwk w (h5 v q w hw hvw)
    · rw [List.mem_singleton] at q
      subst q
      exact hwk w (h6 (v, 8) List.mem_cons_self w hw hvw)
  · rcases hlast k z e with ⟨k1, k2⟩ | ⟨k1, k2⟩
    · rcases hlast i u a with ⟨i1, i2⟩ | ⟨i1, i2⟩
      · exact h8 i u w k z i2 (List.mem_cons_of_mem _ b) c d k2
      · omega
    · subst k2
      exact hup w b
  · rcases hlast j w d with ⟨j1, j2⟩ | ⟨j1, j2⟩
    · rcases hlast i u c with ⟨i1, i2⟩ | ⟨i1, i2⟩
      · rcases hlast k z e with ⟨k1, k2⟩ | ⟨k1, k2⟩
        · exact h9 i j k u w z a b i2 j2 k2 f
        · omega
      · omega
    · subst j2
      rcases hlast k z e with ⟨k1, k2⟩ | ⟨k1, k2⟩
      · rcases hlast i u c with ⟨i1, i2⟩ | ⟨i1, i2⟩
        · exact h8 i u w k z i2 List.mem_cons_self f a k2
        · omega
      · subst k2
        exact Rch.rf z
/-- a walk ended: what it says of the order of leaving -/
theorem DI.done {E : Nat → Nat → Prop} {D D' : Nat → Bool} {F0 : List Nat} {s0 : Nat} {L : List Nat} (h : DI E D F0 s0 [] L) (hD' : ∀ v, D' v = true ↔ (D v = true ∨ v ∈ L)) : JJ E D' (F0 ++ L) := by
  obtain ⟨h1, h2, h3, h4, h5, h6, h7, h8, h9, h10⟩ := h
  obtain ⟨j1, j2, j3⟩ := h7
  have hL : ∀ v ∈ L, v < 8 ∧ D v = false ∧ Rch E s0 v := fun v hv => h2 v hv
  refine ⟨?_, fun u hu => ?_, fun i j k u w z a b c d e f => ?_⟩
  · rw [List.nodup_append]
    refine ⟨j1, h1, fun x hx y hy hxy => ?_⟩
    subst hxy
    have := (j2 x hx).2.1
    rw [(hL x hy).2.1] at this
    cases this
  · rcases List.mem_append.mp hu with q | q
    · obtain ⟨a, b, c⟩ := j2 u q
      exact ⟨a, (hD' u).mpr (Or.inl b), fun w hw he => (hD' w).mpr (Or.inl (c w hw he))⟩
    · refine ⟨(hL u q).1, (hD' u).mpr (Or.inr q), fun w hw he => (hD' w).mpr ?_⟩
      rcases h5 u q w hw he with r | r | r
      · exact Or.inl r
      · exact Or.inr r
      · exact absurd r List.not_mem_nil
  · rcases Nat.lt_or_ge i F0.length with hi | hi
    · rw [List.getElem?_append_left hi] at c
      rcases Nat.lt_or_ge j F0.length with hj | hj
      · rw [List.getElem?_append_left hj] at d
        rw [List.getElem?_append_left (by omega)] at e
        exact j3 i j k u w z a b c d e f
      · rw [List.getElem?_append_right hj] at d
        have hw := hL w (List.mem_of_getElem? d)
        have := (j2 u (List.mem_of_getElem? c)).2.2 w hw.1 f
        rw [hw.2.1] at this
        cases this
    · rw [List.getElem?_append_right hi] at c
      rw [List.getElem?_append_right (by omega)] at d
      rw [List.getElem?_append_right (by omega)] at e
      exact h9 (i - F0.length) (j - F0.length) (k - F0.length) u w z (by omega) (by omega) c d e f
/-- THE ORDER OF LEAVING: who leads to s has one of its component left at s or later -/
theorem JJ.late {E : Nat → Nat → Prop} {D : Nat → Bool} {F : List Nat} (h : JJ E D F) {v s p : Nat} (hv : v ∈ F) (hp : F[p]? = some s) (hvs : Rch E v s) (hE : ∀ u w, E u w → w < 8) (hall : ∀ w, w < 8 → w ∈ F) : ∃ (m u : Nat), p ≤ m ∧ F[m]? = some u ∧ Rch E v u ∧ Rch E u v := by
  rcases Classical.em (∃ (m u : Nat), p ≤ m ∧ F[m]? = some u ∧ Rch E v u ∧ Rch E u v) with q | q
  · exact q
  · exfalso
    -- the last of v's component
    have hex : ∃ (m : Nat), (∃ u, F[m]? = some u ∧ Rch E v u ∧ Rch E u v) ∧ ∀ k, m < k → ¬ ∃ u, F[k]? = some u ∧ Rch E v u ∧ Rch E u v := by
      obtain ⟨m0, hm0⟩ := List.getElem?_of_mem hv
      have key : ∀ n, (∃ m, p ≤ m + n ∧ ∃ u, F[m]? = some u ∧ Rch E v u ∧ Rch E u v) → ∃ (m : Nat), (∃ u, F[m]? = some u ∧ Rch E v u ∧ Rch E u v) ∧ ∀ k, m < k → ¬ ∃ u, F[k]? = some u ∧ Rch E v u ∧ Rch E u v := by
        intro n
        induction n with
        | zero =>
          rintro ⟨m, h1, u, h2⟩
          exact absurd ⟨m, u, h1, h2⟩ q
        | succ n ih =>
          rintro ⟨m, h1, h2⟩
          rcases Classical.em (∃ k, m < k ∧ ∃ u, F[k]? = some u ∧ Rch E v u ∧ Rch E u v) with r | r
          · obtain ⟨k, hk, hk2⟩ := r
            exact ih ⟨k, by omega, hk2⟩
          · exact ⟨m, h2, fun k hk hk2 => r ⟨k, hk, hk2⟩⟩
      exact key p ⟨m0, by omega, v, hm0, Rch.rf v, Rch.rf v⟩
    obtain ⟨m, ⟨u, hu1, hu2, hu3⟩, hm⟩ := hex
    have hmp : m < p := by
      rcases Nat.lt_or_ge m p with r | r
      · exact r
      · exact absurd ⟨m, u, r, hu1, hu2, hu3⟩ q
    -- along the way from v to s
    have := hvs (fun y => ∃ n, n ≤ m ∧ F[n]? = some y ∧ Rch E v y) (by
      obtain ⟨m0, hm0⟩ := List.getElem?_of_mem hv
      refine ⟨m0, ?_, hm0, Rch.rf v⟩
      rcases Nat.lt_or_ge m m0 with r | r
      · exact absurd ⟨v, hm0, Rch.rf v, Rch.rf v⟩ (hm m0 r)
      · exact r) (by
      rintro x y ⟨n, hn, hx, hvx⟩ hxy
      obtain ⟨n', hn'⟩ := List.getElem?_of_mem (hall y (hE x y hxy))
      refine ⟨n', ?_, hn', hvx.st hxy⟩
      rcases Nat.lt_or_ge m n' with r | r
      · have hy := h.2.2 n n' m x y u hn (by omega) hx hn' hu1 hxy
        exact absurd ⟨y, hn', hvx.st hxy, hy.tr hu3⟩ (hm n' r)
      · exact r)
    obtain ⟨n, hn, hns, -⟩ := this
    have hlt : p < F.length := (List.getElem?_eq_some_iff.mp hp).1
    have := (List.getElem?_inj hlt h.1).mp (hp.trans hns.symm)
    omega
-- ===== the measure of a walk =====
def wsum : List (Nat × Nat) → Nat
  | [] => 0
  | p :: l => (9 - p.2) + wsum l
noncomputable def wmu (D : Nat → Bool) (l : List (Nat × Nat)) (L : List Nat) : Nat := 9 * fb_ct (fun v => !(D v || (decide (v ∈ L) || decide (v ∈ l.map Prod.fst)))) 8 + wsum l
theorem wmu_0 (D : Nat → Bool) (s0 : Nat) : wmu D [(s0, 0)] [] ≤ 81 := by
  unfold wmu
  have := fb_ct_le (fun v => !(D v || (decide (v ∈ ([] : List Nat)) || decide (v ∈ [(s0, 0)].map Prod.fst)))) 8
  have e : wsum [(s0, 0)] = 9 := rfl
  omega
theorem wmu_adv (D : Nat → Bool) {s n : Nat} (hn : n < 8) (l : List (Nat × Nat)) (L : List Nat) : wmu D ((s, n + 1) :: l) L + 1 = wmu D ((s, n) :: l) L := by
  unfold wmu
  have e1 : wsum ((s, n + 1) :: l) = (9 - (n + 1)) + wsum l := rfl
  have e2 : wsum ((s, n) :: l) = (9 - n) + wsum l := rfl
  rw [e1, e2]
  have e3 : ((s, n + 1) :: l).map Prod.fst = ((s, n) :: l).map Prod.fst := rfl
  rw [e3]
  omega
theorem wmu_fin (D : Nat → Bool) (s : Nat) (l : List (Nat × Nat)) (L : List Nat) : wmu D l (L ++ [s]) + 1 = wmu D ((s, 8) :: l) L := by
  unfold wmu
  have e2 : wsum ((s, 8) :: l) = 1 + wsum l := rfl
  rw [e2]
  have e3 : (fun v => !(D v || (decide (v ∈ L ++ [s]) || decide (v ∈ l.map Prod.fst)))) = (fun v => !(D v || (decide (v ∈ L) || decide (v ∈ ((s, 8) :: l).map Prod.fst)))) := by
    funext v
    congr 2
    rw [← Bool.decide_or, ← Bool.decide_or]
    refine decide_eq_decide.mpr ?_
    simp only [List.mem_append, List.map_cons, List.mem_cons, List.not_mem_nil, or_false]
    constructor
    · rintro ((a | a) | a)
      · exact Or.inl a
      · exact Or.inr (Or.inl a)
      · exact Or.inr (Or.inr a)
    · rintro (a | a | a)
      · exact Or.inl (Or.inl a)
      · exact Or.inl (Or.inr a)
      · exact Or.inr a
  rw [e3]
  omega
theorem wmu_push (D : Nat → Bool) {s n : Nat} (hn : n < 8) (l : List (Nat × Nat)) (L : List Nat) (hw : ¬ wk D ((s, n) :: l) L n) : wmu D ((n, 0) :: (s, n + 1) :: l) L + 1 = wmu D ((s, n) :: l) L := by
  unfold wmu
  have e1 : wsum ((n, 0) :: (s, n + 1) :: l) = 9 + ((9 - (n + 1)) + wsum l) := rfl
  have e2 : wsum ((s, n) :: l) = (9 - n) + wsum l := rfl
  rw [e1, e2]
  have e := fb_ct_upd (fun v => !(D v || (decide (v ∈ L) || decide (v ∈ ((s, n) :: l).map Prod.fst)))) false hn
  have e3 : (fun v => !(D v || (decide (v ∈ L) || decide (v ∈ ((n, 0) :: (s, n + 1) :: l).map Prod.fst)))) = (fun k => if k = n then false else !(D k || (decide (k ∈ L) || decide (k ∈ ((s, n) :: l).map Prod.fst)))) := by
    funext v
    by_cases q : v = n
    · subst q
      simp
    · rw [if_neg q]
      congr 3
      refine decide_eq_decide.mpr ?_
      simp [q]
  rw [e3]
  have hn2 : (!(D n || (decide (n ∈ L) || decide (n ∈ ((s, n) :: l).map Prod.fst)))) = true := by
    have a1 : D n = false := by
      cases hb : D n
      · rfl
      · exact absurd (Or.inl hb) hw
    rw [a1, decide_eq_false (fun q => hw (Or.inr (Or.inl q))), decide_eq_false (fun q => hw (Or.inr (Or.inr q)))]
    rfl
  rw [hn2] at e
  simp only [Bool.false_eq_true, if_false, if_true] at e
  omega
end
section
/-! contracts of RaceFinder's methods on the lock order -/
set_option maxRecDepth 100000
def scnd (σ : mS) (o i : Int32) (e : Nat) : Bool := bt o (e / 8) && (bt i (e % 8) && !(decide (e / 8 = e % 8) && bt (σ 16 0) (e / 8)))
def fAS (σ : mS) (o i : Int32) (th n : Nat) : mS := fun k => if k = 26 then (fun e => if e < n ∧ scnd σ o i e = true then σ 26 e ||| ((1 : Int32) <<< (nI th &&& 31)) else σ 26 e) else σ k
def X0p_addSteps (vs : List Int32) (_ : mS) : Prop := ∃ o i th, th < 4 ∧ vs = [o, i, nI th]
def X0q_addSteps (vs : List Int32) (σ τ : mS) : Prop := ∀ o i th, th < 4 → vs = [o, i, nI th] → τ = fAS σ o i th 64
/-- the table of steps -/
def SMx (A : AS) (σ : mS) : Prop := ∀ a b, a < 8 → b < 8 → ∀ t, bt (σ 26 (a * 8 + b)) t = true ↔ Stp2 A t a b
def X0p_makeSteps (A : AS) (vs : List Int32) (σ : mS) : Prop := RepX A σ ∧ vs = []
def X0q_makeSteps (A : AS) (_ : List Int32) (σ τ : mS) : Prop := (∀ k, k ≠ 26 → τ k = σ k) ∧ SMx A τ
def sIx (b : Int32) (s t : Nat) : Nat := if b = 0 then s * 8 + t else t * 8 + s
def X0p_stepFrom (vs : List Int32) (_ : mS) : Prop := ∃ s t b, s < 8 ∧ t < 8 ∧ vs = [nI s, nI t, b]
def X0q_stepFrom (vs : List Int32) (σ : mS) (r : Int32) : Prop := ∀ s t b, s < 8 → t < 8 → vs = [nI s, nI t, b] → r = if σ 26 (sIx b s t) = 0 then 0 else 1
/-- a step, seen forward (b = 0) or backward -/
def EW (σ : mS) (b : Int32) (s t : Nat) : Prop := s < 8 ∧ t < 8 ∧ ¬ σ 26 (sIx b s t) = 0
def X0p_walk (g : (Nat → Bool) × List Nat) (vs : List Int32) (σ : mS) : Prop := ∃ s b, s < 8 ∧ vs = [nI s, b] ∧ σ 27 0 = zmask g.1 ∧ g.1 s = false ∧ JJ (EW σ b) g.1 g.2 ∧ σ 29 0 = nI g.2.length ∧ ∀ (i u : Nat), g.2[i]? = some u → σ 28 i = nI u
def X0q_walk (g : (Nat → Bool) × List Nat) (vs : List Int32) (σ : mS) (r : Int32) (τ : mS) : Prop := ∀ s b, s < 8 → vs = [nI s, b] → ∃ L, DI (EW σ b) g.1 g.2 s [] L ∧ r = zmask (fun v => decide (v ∈ L)) ∧ τ 27 0 = zmask (fun v => g.1 v || decide (v ∈ L)) ∧ τ 29 0 = nI (g.2.length + L.length) ∧
  (∀ (i u : Nat), (g.2 ++ L)[i]? = some u → τ 28 i = nI u) ∧ ∀ k, k ≠ 27 → k ≠ 28 → k ≠ 29 → k ≠ 31 → k ≠ 32 → τ k = σ k
/-- thread t has a step within the sites x -/
def TT (σ : mS) (x : Int32) (t : Nat) : Prop := ∃ a b, a < 8 ∧ b < 8 ∧ bt x a = true ∧ bt x b = true ∧ bt (σ 26 (a * 8 + b)) t = true
def X0p_twoThreads (vs : List Int32) (σ : mS) : Prop := ∃ x, vs = [x] ∧ ∀ a b, a < 8 → b < 8 → ∀ t, bt (σ 26 (a * 8 + b)) t = true → t < 4
def X0q_twoThreads (vs : List Int32) (σ : mS) (r : Int32) : Prop := ∀ x, vs = [x] → (¬ r = 0 ↔ ∃ t1 t2, t1 ≠ t2 ∧ TT σ x t1 ∧ TT σ x t2)
def X0p_danger (A : AS) (vs : List Int32) (σ : mS) : Prop := RepX A σ ∧ vs = []
def X0q_danger (A : AS) (_ : List Int32) (_ : mS) (r : Int32) (τ : mS) : Prop := r = dngm A ∧ RepX A τ
end
section
/-! printed by gen/run.py: programs and verification conditions -/
set_option maxRecDepth 100000
def X0t_addSteps : mT := mTv X0p_addSteps X0q_addSteps
def X0t_makeSteps : mT := mGv X0p_makeSteps X0q_makeSteps
def X0t_stepFrom : mT := mTp X0p_stepFrom X0q_stepFrom
def X0t_walk : mT := mGi X0p_walk X0q_walk
def X0t_twoThreads : mT := mTp X0p_twoThreads X0q_twoThreads
def X0t_danger : mT := mGi X0p_danger X0q_danger
def X0g_addSteps : mP := (X0b_addSteps, flX0, fdX0, none, [], [(3, [true, true, true, true, true, false, false]), (13, [true, true, true, true, true, true, false])])
theorem X0v_addSteps_0 {G : Nat → mL → List mv → mS → Prop} {Q : Option Int32 → mS → Prop} (hG : mCl X0g_addSteps G Q) (v1 v2 v3 : Int32) (σ : mS)
    (h : G 3 [some (.inr 99), some (.inl v1), some (.inl v2), some (.inl v3), some (.inl 0), none, none] [] σ) : G 0 [some (.inr 99), some (.inl v1), some (.inl v2), some (.inl v3), none, none, none] [] σ := hG 3 0 _ _ _ h
theorem X0v_addSteps_3 {G : Nat → mL → List mv → mS → Prop} {Q : Option Int32 → mS → Prop} (hG : mCl X0g_addSteps G Q) (v1 v2 v3 v4 : Int32) (σ : mS)
    (h : (((8 : Int32) ≤ v4 → Q none σ) ∧ (¬ (8 : Int32) ≤ v4 → G 13 [some (.inr 99), some (.inl v1), some (.inl v2), some (.inl v3), some (.inl v4), some (.inl 0), none] [] σ))) : G 3 [some (.inr 99), some (.inl v1), some (.inl v2), some (.inl v3), some (.inl v4), none, none] [] σ := hG 6 3 _ _ _ h
theorem X0v_addSteps_13 {G : Nat → mL → List mv → mS → Prop} {Q : Option Int32 → mS → Prop} (hG : mCl X0g_addSteps G Q) (v1 v2 v3 v4 v5 : Int32) (σ : mS)
    (h : (((8 : Int32) ≤ v5 → G 3 [some (.inr 99), some (.inl v1), some (.inl v2), some (.inl v3), some (.inl (v4 + 1)), none, none] [] σ) ∧ (¬ (8 : Int32) ≤ v5 → ((¬ ((v1 >>> (v4 &&& 31)) &&& 1) = (1 : Int32) → (((0 : Int32) = (0 : Int32) → G 13 [some (.inr 99), some (.inl v1), some (.inl v2), some (.inl v3), some (.inl v4), some (.inl (v5 + 1)), none] [] σ) ∧ (¬ (0 : Int32) = (0 : Int32) → ((¬ v4 = v5 → (vp_in ((v4 * 8) + v5) 64 ∧ ∀ x1 : Int32, x1 = σ 26 ((v4 * 8) + v5).toNatClampNeg → (vp_in ((v4 * 8) + v5) 64 ∧ G 13 [some (.inr 99), some (.inl v1), some (.inl v2), some (.inl v3), some (.inl v4), some (.inl (v5 + 1)), none] [] (mU σ 26 ((v4 * 8) + v5).toNatClampNeg (x1 ||| ((1 : Int32) <<< (v3 &&& 31))))))) ∧ (v4 = v5 → (((((σ 16 0) >>> (v4 &&& 31)) &&& 1) = (1 : Int32) → G 13 [some (.inr 99), some (.inl v1), some (.inl v2), some (.inl v3), some (.inl v4), some (.inl (v5 + 1)), none] [] σ) ∧ (¬ (((σ 16 0) >>> (v4 &&& 31)) &&& 1) = (1 : Int32) → (vp_in ((v4 * 8) + v5) 64 ∧ ∀ x2 : Int32, x2 = σ 26 ((v4 * 8) + v5).toNatClampNeg → (vp_in ((v4 * 8) + v5) 64 ∧ G 13 [some (.inr 99), some (.inl v1), some (.inl v2), some (.inl v3), some (.inl v4), some (.inl (v5 + 1)), none] [] (mU σ 26 ((v4 * 8) + v5).toNatClampNeg (x2 ||| ((1 : Int32) <<< (v3 &&& 31))))))))))))) ∧ (((v1 >>> (v4 &&& 31)) &&& 1) = (1 : Int32) → ((¬ ((v2 >>> (v5 &&& 31)) &&& 1) = (1 : Int32) → (((0 : Int32) = (0 : Int32) → G 13 [some (.inr 99), some (.inl v1), some (.inl v2), some (.inl v3), some (.inl v4), some (.inl (v5 + 1)), none] [] σ) ∧ (¬ (0 : Int32) = (0 : Int32) → ((¬ v4 = v5 → (vp_in ((v4 * 8) + v5) 64 ∧ ∀ x3 : Int32, x3 = σ 26 ((v4 * 8) + v5).toNatClampNeg → (vp_in ((v4 * 8) + v5) 64 ∧ G 13 [some (.inr 99), some (.inl v1), some (.inl v2), some (.inl v3), some (.inl v4), some (.inl (v5 + 1)), none] [] (mU σ 26 ((v4 * 8) + v5).toNatClampNeg (x3 ||| ((1 : Int32) <<< (v3 &&& 31))))))) ∧ (v4 = v5 → (((((σ 16 0) >>> (v4 &&& 31)) &&& 1) = (1 : Int32) → G 13 [some (.inr 99), some (.inl v1), some (.inl v2), some (.inl v3), some (.inl v4), some (.inl (v5 + 1)), none] [] σ) ∧ (¬ (((σ 16 0) >>> (v4 &&& 31)) &&& 1) = (1 : Int32) → (vp_in ((v4 * 8) + v5) 64 ∧ ∀ x4 : Int32, x4 = σ 26 ((v4 * 8) + v5).toNatClampNeg → (vp_in ((v4 * 8) + v5) 64 ∧ G 13 [some (.inr 99), some (.inl v1), some (.inl v2), some (.inl v3), some (.inl v4), some (.inl (v5 + 1)), none] [] (mU σ 26 ((v4 * 8) + v5).toNatClampNeg (x4 ||| ((1 : Int32) <<< (v3 &&& 31))))))))))))) ∧ (((v2 >>> (v5 &&& 31)) &&& 1) = (1 : Int32) → (((1 : Int32) = (0 : Int32) → G 13 [some (.inr 99), some (.inl v1), some (.inl v2), some (.inl v3), some (.inl v4), some (.inl (v5 + 1)), none] [] σ) ∧ (¬ (1 : Int32) = (0 : Int32) → ((¬ v4 = v5 → (vp_in ((v4 * 8) + v5) 64 ∧ ∀ x5 : Int32, x5 = σ 26 ((v4 * 8) + v5).toNatClampNeg → (vp_in ((v4 * 8) + v5) 64 ∧ G 13 [some (.inr 99), some (.inl v1), some (.inl v2), some (.inl v3), some (.inl v4), some (.inl (v5 + 1)), none] [] (mU σ 26 ((v4 * 8) + v5).toNatClampNeg (x5 ||| ((1 : Int32) <<< (v3 &&& 31))))))) ∧ (v4 = v5 → (((((σ 16 0) >>> (v4 &&& 31)) &&& 1) = (1 : Int32) → G 13 [some (.inr 99), some (.inl v1), some (.inl v2), some (.inl v3), some (.inl v4), some (.inl (v5 + 1)), none] [] σ) ∧ (¬ (((σ 16 0) >>> (v4 &&& 31)) &&& 1) = (1 : Int32) → (vp_in ((v4 * 8) + v5) 64 ∧ ∀ x6 : Int32, x6 = σ 26 ((v4 * 8) + v5).toNatClampNeg → (vp_in ((v4 * 8) + v5) 64 ∧ G 13 [some (.inr 99), some (.inl v1), some (.inl v2), some (.inl v3), some (.inl v4), some (.inl (v5 + 1)), none] [] (mU σ 26 ((v4 * 8) + v5).toNatClampNeg (x6 ||| ((1 : Int32) <<< (v3 &&& 31))))))))))))))))))) : G 13 [some (.inr 99), some (.inl v1), some (.inl v2), some (.inl v3), some (.inl v4), some (.inl v5), none] [] σ := hG 50 13 _ _ _ h
def X0g_makeSteps : mP := (X0b_makeSteps, flX0, fdX0, none, [(172, 3, true, X0t_addSteps)], [(2, [true, true, false, false]), (23, [true, true, false, false]), (40, [true, true, true, true])])
theorem X0v_makeSteps_0 {G : Nat → mL → List mv → mS → Prop} {Q : Option Int32 → mS → Prop} (hG : mCl X0g_makeSteps G Q) (σ : mS)
    (h : G 2 [some (.inr 99), some (.inl 0), none, none] [] σ) : G 0 [some (.inr 99), none, none, none] [] σ := hG 3 0 _ _ _ h
theorem X0v_makeSteps_2 {G : Nat → mL → List mv → mS → Prop} {Q : Option Int32 → mS → Prop} (hG : mCl X0g_makeSteps G Q) (v1 : Int32) (σ : mS)
    (h : (((64 : Int32) ≤ v1 → G 23 [some (.inr 99), some (.inl 0), none, none] [] σ) ∧ (¬ (64 : Int32) ≤ v1 → (vp_in v1 64 ∧ G 2 [some (.inr 99), some (.inl (v1 + 1)), none, none] [] (mU σ 26 v1.toNatClampNeg 0))))) : G 2 [some (.inr 99), some (.inl v1), none, none] [] σ := hG 11 2 _ _ _ h
theorem X0v_makeSteps_23 {G : Nat → mL → List mv → mS → Prop} {Q : Option Int32 → mS → Prop} (hG : mCl X0g_makeSteps G Q) (v1 : Int32) (σ : mS)
    (h : (((σ 17 0) ≤ v1 → Q none σ) ∧ (¬ (σ 17 0) ≤ v1 → (vp_in v1 12 ∧ ∀ x1 : Int32, x1 = σ 20 v1.toNatClampNeg → G 40 [some (.inr 99), some (.inl v1), some (.inl x1), some (.inl 0)] [] σ)))) : G 23 [some (.inr 99), some (.inl v1), none, none] [] σ := hG 12 23 _ _ _ h
theorem X0v_makeSteps_40 {G : Nat → mL → List mv → mS → Prop} {Q : Option Int32 → mS → Prop} (hG : mCl X0g_makeSteps G Q) (v1 v2 v3 : Int32) (σ : mS)
    (h : (((12 : Int32) ≤ v3 → G 23 [some (.inr 99), some (.inl (v1 + 1)), none, none] [] σ) ∧ (¬ (12 : Int32) ≤ v3 → ((v2 < (0 : Int32) → G 23 [some (.inr 99), some (.inl (v1 + 1)), none, none] [] σ) ∧ (¬ v2 < (0 : Int32) → (vp_in v2 12 ∧ ∀ x1 : Int32, x1 = σ 19 v2.toNatClampNeg → (vp_in x1 28 ∧ ∀ x2 : Int32, x2 = σ 0 x1.toNatClampNeg → (vp_in x2 28 ∧ ∀ x3 : Int32, x3 = σ 1 x2.toNatClampNeg → (vp_in v1 12 ∧ ∀ x4 : Int32, x4 = σ 19 v1.toNatClampNeg → (vp_in x4 28 ∧ ∀ x5 : Int32, x5 = σ 0 x4.toNatClampNeg → (vp_in x5 28 ∧ ∀ x6 : Int32, x6 = σ 1 x5.toNatClampNeg → (vp_in v1 12 ∧ ∀ x7 : Int32, x7 = σ 18 v1.toNatClampNeg → (X0p_addSteps [x3, x6, x7] σ ∧ ∀ s8 : mS, X0q_addSteps [x3, x6, x7] σ s8 → (vp_in v2 12 ∧ ∀ x9 : Int32, x9 = s8 20 v2.toNatClampNeg → G 40 [some (.inr 99), some (.inl v1), some (.inl x9), some (.inl (v3 + 1))] [] s8)))))))))))))) : G 40 [some (.inr 99), some (.inl v1), some (.inl v2), some (.inl v3)] [] σ := hG 39 40 _ _ _ h
def X0g_stepFrom : mP := (X0b_stepFrom, flX0, fdX0, some .boolean, [], [])
theorem X0v_stepFrom_0 {G : Nat → mL → List mv → mS → Prop} {Q : Option Int32 → mS → Prop} (hG : mCl X0g_stepFrom G Q) (v1 v2 v3 : Int32) (σ : mS)
    (h : ((v3 = (0 : Int32) → (vp_in ((v1 * 8) + v2) 64 ∧ ∀ x1 : Int32, x1 = σ 26 ((v1 * 8) + v2).toNatClampNeg → ((x1 = (0 : Int32) → (((0 : Int32) = 0 ∨ (0 : Int32) = 1) ∧ Q (some 0) σ)) ∧ (¬ x1 = (0 : Int32) → (((1 : Int32) = 0 ∨ (1 : Int32) = 1) ∧ Q (some 1) σ))))) ∧ (¬ v3 = (0 : Int32) → (vp_in ((v2 * 8) + v1) 64 ∧ ∀ x2 : Int32, x2 = σ 26 ((v2 * 8) + v1).toNatClampNeg → ((x2 = (0 : Int32) → (((0 : Int32) = 0 ∨ (0 : Int32) = 1) ∧ Q (some 0) σ)) ∧ (¬ x2 = (0 : Int32) → (((1 : Int32) = 0 ∨ (1 : Int32) = 1) ∧ Q (some 1) σ))))))) : G 0 [some (.inr 99), some (.inl v1), some (.inl v2), some (.inl v3)] [] σ := hG 15 0 _ _ _ h
def X0g_walk : mP := (X0b_walk, flX0, fdX0, some .int, [(181, 3, true, X0t_stepFrom)], [(36, [true, true, true, true, true, true, false, false, false])])
theorem X0v_walk_0 {G : Nat → mL → List mv → mS → Prop} {Q : Option Int32 → mS → Prop} (hG : mCl X0g_walk G Q) (v1 v2 : Int32) (σ : mS)
    (h : (vp_in 0 9 ∧ (vp_in 0 9 ∧ G 36 [some (.inr 99), some (.inl v1), some (.inl v2), some (.inl ((1 : Int32) <<< (v1 &&& 31))), some (.inl 1), some (.inl 0), none, none, none] [] (mU (mU (mU σ 27 0 ((σ 27 0) ||| ((1 : Int32) <<< (v1 &&& 31)))) 31 (0 : Int32).toNatClampNeg v1) 32 (0 : Int32).toNatClampNeg 0)))) : G 0 [some (.inr 99), some (.inl v1), some (.inl v2), none, none, none, none, none, none] [] σ := hG 27 0 _ _ _ h
theorem X0v_walk_36 {G : Nat → mL → List mv → mS → Prop} {Q : Option Int32 → mS → Prop} (hG : mCl X0g_walk G Q) (v1 v2 v3 v4 v5 : Int32) (σ : mS)
    (h : (((200 : Int32) ≤ v5 → Q (some v3) σ) ∧ (¬ (200 : Int32) ≤ v5 → ((v4 ≤ (0 : Int32) → Q (some v3) σ) ∧ (¬ v4 ≤ (0 : Int32) → (vp_in (v4 - 1) 9 ∧ ∀ x1 : Int32, x1 = σ 31 (v4 - 1).toNatClampNeg → (vp_in (v4 - 1) 9 ∧ ∀ x2 : Int32, x2 = σ 32 (v4 - 1).toNatClampNeg → ((¬ x2 = (8 : Int32) → (vp_in (v4 - 1) 9 ∧ (X0p_stepFrom [x1, x2, v2] (mU σ 32 (v4 - 1).toNatClampNeg (x2 + 1)) ∧ ∀ x3 : Int32, X0q_stepFrom [x1, x2, v2] (mU σ 32 (v4 - 1).toNatClampNeg (x2 + 1)) x3 → ((x3 = (0 : Int32) → G 36 [some (.inr 99), some (.inl v1), some (.inl v2), some (.inl v3), some (.inl v4), some (.inl (v5 + 1)), none, none, none] [] (mU σ 32 (v4 - 1).toNatClampNeg (x2 + 1))) ∧ (¬ x3 = (0 : Int32) → ((¬ (((σ 27 0) >>> (x2 &&& 31)) &&& 1) = (0 : Int32) → G 36 [some (.inr 99), some (.inl v1), some (.inl v2), some (.inl v3), some (.inl v4), some (.inl (v5 + 1)), none, none, none] [] (mU σ 32 (v4 - 1).toNatClampNeg (x2 + 1))) ∧ ((((σ 27 0) >>> (x2 &&& 31)) &&& 1) = (0 : Int32) → (vp_in v4 9 ∧ (vp_in v4 9 ∧ G 36 [some (.inr 99), some (.inl v1), some (.inl v2), some (.inl (v3 ||| ((1 : Int32) <<< (x2 &&& 31)))), some (.inl (v4 + 1)), some (.inl (v5 + 1)), none, none, none] [] (mU (mU (mU (mU σ 32 (v4 - 1).toNatClampNeg (x2 + 1)) 27 0 ((σ 27 0) ||| ((1 : Int32) <<< (x2 &&& 31)))) 31 v4.toNatClampNeg x2) 32 v4.toNatClampNeg 0)))))))))) ∧ (x2 = (8 : Int32) → (vp_in (σ 29 0) 8 ∧ G 36 [some (.inr 99), some (.inl v1), some (.inl v2), some (.inl v3), some (.inl (v4 + (-1))), some (.inl (v5 + 1)), none, none, none] [] (mU (mU σ 28 (σ 29 0).toNatClampNeg x1) 29 0 ((σ 29 0) + 1)))))))))))) : G 36 [some (.inr 99), some (.inl v1), some (.inl v2), some (.inl v3), some (.inl v4), some (.inl v5), none, none, none] [] σ := hG 74 36 _ _ _ h
def X0g_twoThreads : mP := (X0b_twoThreads, flX0, fdX0, some .boolean, [], [(4, [true, true, true, true, false]), (13, [true, true, true, true, true])])
theorem X0v_twoThreads_0 {G : Nat → mL → List mv → mS → Prop} {Q : Option Int32 → mS → Prop} (hG : mCl X0g_twoThreads G Q) (v1 : Int32) (σ : mS)
    (h : G 4 [some (.inr 99), some (.inl v1), some (.inl 0), some (.inl 0), none] [] σ) : G 0 [some (.inr 99), some (.inl v1), none, none, none] [] σ := hG 5 0 _ _ _ h
theorem X0v_twoThreads_4 {G : Nat → mL → List mv → mS → Prop} {Q : Option Int32 → mS → Prop} (hG : mCl X0g_twoThreads G Q) (v1 v2 v3 : Int32) (σ : mS)
    (h : (((8 : Int32) ≤ v3 → (((v2 &&& (v2 - 1)) = (0 : Int32) → (((0 : Int32) = 0 ∨ (0 : Int32) = 1) ∧ Q (some 0) σ)) ∧ (¬ (v2 &&& (v2 - 1)) = (0 : Int32) → (((1 : Int32) = 0 ∨ (1 : Int32) = 1) ∧ Q (some 1) σ)))) ∧ (¬ (8 : Int32) ≤ v3 → G 13 [some (.inr 99), some (.inl v1), some (.inl v2), some (.inl v3), some (.inl 0)] [] σ))) : G 4 [some (.inr 99), some (.inl v1), some (.inl v2), some (.inl v3), none] [] σ := hG 12 4 _ _ _ h
theorem X0v_twoThreads_13 {G : Nat → mL → List mv → mS → Prop} {Q : Option Int32 → mS → Prop} (hG : mCl X0g_twoThreads G Q) (v1 v2 v3 v4 : Int32) (σ : mS)
    (h : (((8 : Int32) ≤ v4 → G 4 [some (.inr 99), some (.inl v1), some (.inl v2), some (.inl (v3 + 1)), none] [] σ) ∧ (¬ (8 : Int32) ≤ v4 → ((¬ ((v1 >>> (v3 &&& 31)) &&& 1) = (1 : Int32) → G 13 [some (.inr 99), some (.inl v1), some (.inl v2), some (.inl v3), some (.inl (v4 + 1))] [] σ) ∧ (((v1 >>> (v3 &&& 31)) &&& 1) = (1 : Int32) → ((¬ ((v1 >>> (v4 &&& 31)) &&& 1) = (1 : Int32) → G 13 [some (.inr 99), some (.inl v1), some (.inl v2), some (.inl v3), some (.inl (v4 + 1))] [] σ) ∧ (((v1 >>> (v4 &&& 31)) &&& 1) = (1 : Int32) → (vp_in ((v3 * 8) + v4) 64 ∧ ∀ x1 : Int32, x1 = σ 26 ((v3 * 8) + v4).toNatClampNeg → G 13 [some (.inr 99), some (.inl v1), some (.inl (v2 ||| x1)), some (.inl v3), some (.inl (v4 + 1))] [] σ)))))))) : G 13 [some (.inr 99), some (.inl v1), some (.inl v2), some (.inl v3), some (.inl v4)] [] σ := hG 31 13 _ _ _ h
def X0g_danger : mP := (X0b_danger, flX0, fdX0, some .int, [(185, 0, true, X0t_makeSteps), (188, 2, true, X0t_walk), (192, 1, true, X0t_twoThreads)], [(16, [true, true, false, false, false, false]), (48, [true, true, false, false, false, false]), (82, [true, true, true, false, false, false])])
theorem X0v_danger_0 {G : Nat → mL → List mv → mS → Prop} {Q : Option Int32 → mS → Prop} (hG : mCl X0g_danger G Q) (σ : mS)
    (h : (∃ g1 : AS, X0p_makeSteps g1 [] σ ∧ ∀ s2 : mS, X0q_makeSteps g1 [] σ s2 → G 16 [some (.inr 99), some (.inl 0), none, none, none, none] [] (mU (mU s2 27 0 0) 29 0 0))) : G 0 [some (.inr 99), none, none, none, none, none] [] σ := hG 11 0 _ _ _ h
theorem X0v_danger_16 {G : Nat → mL → List mv → mS → Prop} {Q : Option Int32 → mS → Prop} (hG : mCl X0g_danger G Q) (v1 : Int32) (σ : mS)
    (h : (((8 : Int32) ≤ v1 → G 48 [some (.inr 99), some (.inl 0), none, none, none, none] [] σ) ∧ (¬ (8 : Int32) ≤ v1 → ((¬ (((σ 27 0) >>> (v1 &&& 31)) &&& 1) = (0 : Int32) → G 16 [some (.inr 99), some (.inl (v1 + 1)), none, none, none, none] [] σ) ∧ ((((σ 27 0) >>> (v1 &&& 31)) &&& 1) = (0 : Int32) → (∃ g1 : ((Nat → Bool) × List Nat), X0p_walk g1 [v1, 0] σ ∧ ∀ (x2 : Int32) (s3 : mS), X0q_walk g1 [v1, 0] σ x2 s3 → G 16 [some (.inr 99), some (.inl (v1 + 1)), none, none, none, none] [] s3)))))) : G 16 [some (.inr 99), some (.inl v1), none, none, none, none] [] σ := hG 18 16 _ _ _ h
theorem X0v_danger_48 {G : Nat → mL → List mv → mS → Prop} {Q : Option Int32 → mS → Prop} (hG : mCl X0g_danger G Q) (v1 : Int32) (σ : mS)
    (h : (((8 : Int32) ≤ v1 → G 82 [some (.inr 99), some (.inl 0), some (.inl 7), none, none, none] [] (mU σ 27 0 0)) ∧ (¬ (8 : Int32) ≤ v1 → (vp_in v1 8 ∧ ∀ x1 : Int32, x1 = σ 28 v1.toNatClampNeg → (vp_in v1 8 ∧ G 48 [some (.inr 99), some (.inl (v1 + 1)), none, none, none, none] [] (mU σ 30 v1.toNatClampNeg x1)))))) : G 48 [some (.inr 99), some (.inl v1), none, none, none, none] [] σ := hG 14 48 _ _ _ h
theorem X0v_danger_82 {G : Nat → mL → List mv → mS → Prop} {Q : Option Int32 → mS → Prop} (hG : mCl X0g_danger G Q) (v1 v2 : Int32) (σ : mS)
    (h : ((v2 < (0 : Int32) → Q (some v1) σ) ∧ (¬ v2 < (0 : Int32) → (vp_in v2 8 ∧ ∀ x1 : Int32, x1 = σ 30 v2.toNatClampNeg → ((¬ (((σ 27 0) >>> (x1 &&& 31)) &&& 1) = (0 : Int32) → G 82 [some (.inr 99), some (.inl v1), some (.inl (v2 + (-1))), none, none, none] [] σ) ∧ ((((σ 27 0) >>> (x1 &&& 31)) &&& 1) = (0 : Int32) → (∃ g2 : ((Nat → Bool) × List Nat), X0p_walk g2 [x1, 1] (mU σ 29 0 0) ∧ ∀ (x3 : Int32) (s4 : mS), X0q_walk g2 [x1, 1] (mU σ 29 0 0) x3 s4 → (X0p_twoThreads [x3] s4 ∧ ∀ x5 : Int32, X0q_twoThreads [x3] s4 x5 → ((x5 = (0 : Int32) → G 82 [some (.inr 99), some (.inl v1), some (.inl (v2 + (-1))), none, none, none] [] s4) ∧ (¬ x5 = (0 : Int32) → G 82 [some (.inr 99), some (.inl (v1 ||| x3)), some (.inl (v2 + (-1))), none, none, none] [] s4)))))))))) : G 82 [some (.inr 99), some (.inl v1), some (.inl v2), none, none, none] [] σ := hG 35 82 _ _ _ h
end
section
/-! addSteps, makeSteps, stepFrom, twoThreads -/
set_option maxRecDepth 100000
theorem zn_ix8 (s t : Nat) : (nI s * 8) + nI t = nI (s * 8 + t) := by
  rw [show (8 : Int32) = nI 8 from rfl, pk_mul, nI_add]
theorem fAS_26 (σ : mS) (o i : Int32) (th n e : Nat) : fAS σ o i th n 26 e = if e < n ∧ scnd σ o i e = true then σ 26 e ||| ((1 : Int32) <<< (nI th &&& 31)) else σ 26 e := rfl
theorem fAS_k {σ : mS} {o i : Int32} {th n k : Nat} (h : k ≠ 26) : fAS σ o i th n k = σ k := if_neg h
theorem fAS_step {σ : mS} {o i : Int32} {th n e : Nat} (h : ¬ (e = n ∧ scnd σ o i e = true)) : fAS σ o i th (n + 1) 26 e = fAS σ o i th n 26 e := by
  rw [fAS_26, fAS_26]
  by_cases hk : scnd σ o i e = true
  · have hne : e ≠ n := fun q => h ⟨q, hk⟩
    by_cases h2 : e < n
    · rw [if_pos ⟨by omega, hk⟩, if_pos ⟨h2, hk⟩]
    · rw [if_neg (fun q => h2 (by omega)), if_neg (fun q => h2 q.1)]
  · rw [if_neg (fun q => hk q.2), if_neg (fun q => hk q.2)]
theorem fAS_skip {σ : mS} {o i : Int32} {th n : Nat} (h : ¬ scnd σ o i n = true) : fAS σ o i th (n + 1) = fAS σ o i th n := by
  funext k e
  by_cases e0 : k = 26
  · subst e0
    exact fAS_step (fun q => h (q.1 ▸ q.2))
  · rw [fAS_k e0, fAS_k e0]
theorem fAS_put {σ : mS} {o i : Int32} {th n : Nat} (h : scnd σ o i n = true) : fAS σ o i th (n + 1) = mU (fAS σ o i th n) 26 n (fAS σ o i th n 26 n ||| ((1 : Int32) <<< (nI th &&& 31))) := by
  funext k e
  rw [mU_at]
  by_cases e0 : k = 26
  · subst e0
    by_cases e1 : e = n
    · subst e1
      rw [if_pos ⟨rfl, rfl⟩, fAS_26, fAS_26, if_pos ⟨by omega, h⟩, if_neg (fun q => Nat.lt_irrefl e q.1)]
    · rw [if_neg (fun q => e1 q.2)]
      exact fAS_step (fun q => e1 q.1)
  · rw [if_neg (fun q => e0 q.1), fAS_k e0, fAS_k e0]
theorem fAS_0 (σ : mS) (o i : Int32) (th : Nat) : fAS σ o i th 0 = σ := by
  funext k e
  by_cases e0 : k = 26
  · subst e0
    rw [fAS_26, if_neg (fun q => absurd q.1 (Nat.not_lt_zero e))]
  · rw [fAS_k e0]
theorem scnd_at (σ : mS) (o i : Int32) {s t : Nat} (ht : t < 8) : scnd σ o i (s * 8 + t) = (bt o s && (bt i t && !(decide (s = t) && bt (σ 16 0) s))) := by
  unfold scnd
  rw [show (s * 8 + t) / 8 = s by omega, show (s * 8 + t) % 8 = t by omega]
theorem X0d_addSteps (G : Nat → mL → List mv → mS → Prop) (Q : Option Int32 → mS → Prop) (vs : List Int32) (σ : mS) (hG : mCl X0g_addSteps G Q) (h : X0t_addSteps vs σ Q) : (vs.length + 1 ≤ 7 ∨ (true = false ∧ vs.length ≤ 7)) ∧ G 0 (mL0 7 true vs) [] σ := by
  obtain ⟨⟨o, i, th, hth, rfl⟩, h⟩ := h
  have hq : Q none (fAS σ o i th 64) := h _ fun o' i' th' hth' e => by
    obtain ⟨e1, e2⟩ := List.cons.inj e
    obtain ⟨e2, e3⟩ := List.cons.inj e2
    obtain ⟨e3, -⟩ := List.cons.inj e3
    cases e1
    cases e2
    cases zn_inj (by omega) (by omega) e3
    rfl
  have key := zup (α := Unit) (N := 8) (H := fun s _ => G 3 [some (.inr 99), some (.inl o), some (.inl i), some (.inl (nI th)), some (.inl (nI s)), none, none] [] (fAS σ o i th (s * 8))) (I := fun _ _ => True)
    (fun _ _ => X0v_addSteps_3 hG _ _ _ _ _ ⟨fun _ => hq, fun c => zle (by decide) c⟩)
    (fun s _ hs _ hn => by
      refine X0v_addSteps_3 hG _ _ _ _ _ ⟨fun c => zge hs (by decide) c, fun _ => ?_⟩
      have inner := zup (α := Unit) (N := 8) (H := fun t _ => G 13 [some (.inr 99), some (.inl o), some (.inl i), some (.inl (nI th)), some (.inl (nI s)), some (.inl (nI t)), none] [] (fAS σ o i th (s * 8 + t))) (I := fun _ _ => True)
        (fun _ _ => X0v_addSteps_13 hG _ _ _ _ _ _ ⟨fun _ => by
          have := hn () trivial
          rw [← nI_1, show (s + 1) * 8 = s * 8 + 8 by omega] at this
          exact this, fun c => zle (by decide) c⟩)
        (fun t _ ht _ hn2 => by
          have hn2 := hn2 () trivial
          rw [← nI_1, ← Nat.add_assoc] at hn2
          have hsc := scnd_at σ o i (s := s) ht
          have hin := zi_in (show s * 8 + t < 64 by omega) (show 64 < 2 ^ 31 by decide)
          have hcl : (nI (s * 8 + t)).toNatClampNeg = s * 8 + t := nI_clamp (by omega)
          have skip : ¬ scnd σ o i (s * 8 + t) = true → G 13 [some (.inr 99), some (.inl o), some (.inl i), some (.inl (nI th)), some (.inl (nI s)), some (.inl (nI t + 1)), none] [] (fAS σ o i th (s * 8 + t)) := fun hc => by
            rw [fAS_skip hc] at hn2
            exact hn2
          have put : scnd σ o i (s * 8 + t) = true → (vp_in (nI (s * 8 + t)) 64 ∧ ∀ x1 : Int32, x1 = fAS σ o i th (s * 8 + t) 26 (nI (s * 8 + t)).toNatClampNeg → (vp_in (nI (s * 8 + t)) 64 ∧ G 13 [some (.inr 99), some (.inl o), some (.inl i), some (.inl (nI th)), some (.inl (nI s)), some (.inl (nI t + 1)), none] [] (mU (fAS σ o i th (s * 8 + t)) 26 (nI (s * 8 + t)).toNatClampNeg (x1 ||| ((1 : Int32) <<< (nI th &&& 31)))))) := fun hc => by
            refine ⟨hin, fun x1 e1 => ⟨hin, ?_⟩⟩
            rw [hcl] at e1 ⊢
            rw [fAS_put hc, ← e1] at hn2
            exact hn2
          rw [hsc] at skip put
          refine X0v_addSteps_13 hG _ _ _ _ _ _ ⟨fun c => zge ht (by decide) c, fun _ => ⟨fun a => ⟨fun _ => skip ?_, fun z => absurd rfl z⟩, fun a => ⟨fun b => ⟨fun _ => skip ?_, fun z => absurd rfl z⟩, fun b => ⟨fun z => absurd z (by decide), fun _ => ⟨fun d => ?_, fun d => ⟨fun f => skip ?_, fun f => ?_⟩⟩⟩⟩⟩⟩
          · have ha : bt o s = false := by
              cases hb : bt o s
              · rfl
              · exact absurd ((zb_is1 o (by omega)).mpr hb) a
            rw [ha]
            simp
          · have hb' : bt i t = false := by
              cases hb : bt i t
              · rfl
              · exact absurd ((zb_is1 i (by omega)).mpr hb) b
            rw [hb']
            simp
          · rw [zn_ix8]
            refine put ?_
            rw [(zb_is1 o (by omega)).mp a, (zb_is1 i (by omega)).mp b, decide_eq_false (fun q => d (by rw [q]))]
            rfl
          · have hst : s = t := zn_inj (by omega) (by omega) d
            have f : bt (σ 16 0) s = true := (zb_is1 (σ 16 0) (by omega)).mp f
            rw [f, decide_eq_true hst]
            simp
          · rw [zn_ix8]
            refine put ?_
            have f' : bt (σ 16 0) s = false := by
              cases hb : bt (σ 16 0) s
              · rfl
              · exact absurd ((zb_is1 (σ 16 0) (by omega)).mpr hb) f
            rw [(zb_is1 o (by omega)).mp a, (zb_is1 i (by omega)).mp b, f']
            simp)
      exact inner 0 () (by omega) trivial)
  have k0 : G 3 [some (.inr 99), some (.inl o), some (.inl i), some (.inl (nI th)), some (.inl (nI 0)), none, none] [] (fAS σ o i th 0) := key 0 () (by omega) trivial
  rw [fAS_0] at k0
  exact ⟨Or.inl (Nat.le_of_ble_eq_true rfl), X0v_addSteps_0 hG _ _ _ σ k0⟩
theorem ancs_lt {A : AS} (hA : AW A) : ∀ (k : Nat) (c : Option Nat), (∀ r, c = some r → r < A.2.2.1.length) → ∀ q ∈ ancs A k c, q < A.2.2.1.length
  | 0, _, _, q, hq => absurd hq List.not_mem_nil
  | _ + 1, none, _, q, hq => absurd hq List.not_mem_nil
  | k + 1, some r, hc, q, hq => by
    have hr := hc r rfl
    rcases List.mem_cons.mp hq with e | e
    · rw [e]; exact hr
    · exact ancs_lt hA k _ (fun r' e' => by have := (hA.2.2.2.2.2.1 r hr).2.2 r' e'; omega) q e
/-- the steps of the regions before r, and of region r by its first ancestors pre -/
def Sp (A : AS) (r : Nat) (pre : List Nat) (t a b : Nat) : Prop := (∃ r', r' < r ∧ (rg A r').1 = t ∧ ∃ q, q ∈ ancs A 12 (rg A r').2.2 ∧ bt (msk A.1 (rg A q).2.1) a = true ∧ bt (msk A.1 (rg A r').2.1) b = true ∧ ¬ (a = b ∧ A.2.1 a = true)) ∨
  ((rg A r).1 = t ∧ ∃ q, q ∈ pre ∧ bt (msk A.1 (rg A q).2.1) a = true ∧ bt (msk A.1 (rg A r).2.1) b = true ∧ ¬ (a = b ∧ A.2.1 a = true))
theorem Sp.next {A : AS} {r t a b : Nat} : Sp A r (ancs A 12 (rg A r).2.2) t a b ↔ Sp A (r + 1) [] t a b := by
  constructor
  · rintro (⟨r', h1, h2⟩ | ⟨h1, h2⟩)
    · exact Or.inl ⟨r', by omega, h2⟩
    · exact Or.inl ⟨r, by omega, h1, h2⟩
  · rintro (⟨r', h1, h2, h3⟩ | ⟨-, q, hq, -⟩)
    · rcases Nat.lt_or_ge r' r with z | z
      · exact Or.inl ⟨r', z, h2, h3⟩
      · have e : r' = r := by omega
        subst e
        exact Or.inr ⟨h2, h3⟩
    · exact absurd hq List.not_mem_nil
theorem X0d_makeSteps (G : Nat → mL → List mv → mS → Prop) (Q : Option Int32 → mS → Prop) (vs : List Int32) (σ : mS) (hG : mCl X0g_makeSteps G Q) (h : X0t_makeSteps vs σ Q) : (vs.length + 1 ≤ 4 ∨ (true = false ∧ vs.length ≤ 4)) ∧ G 0 (mL0 4 true vs) [] σ := by
  obtain ⟨A, ⟨hA, rfl⟩, h⟩ := h
  have hq : ∀ τ, (∀ k, k ≠ 26 → τ k = σ k) → SMx A τ → Q none τ := fun τ h1 h2 => h τ ⟨h1, h2⟩
  have hl12 := hA.1.2.2.2.1
  have key23 := zup (α := mS) (N := A.2.2.1.length) (H := fun r υ => G 23 [some (.inr 99), some (.inl (nI r)), none, none] [] υ)
    (I := fun r υ => (∀ k, k ≠ 26 → υ k = σ k) ∧ ∀ a b, a < 8 → b < 8 → ∀ t, bt (υ 26 (a * 8 + b)) t = true ↔ Sp A r [] t a b)
    (fun υ ⟨h1, h2⟩ => by
      refine X0v_makeSteps_23 hG _ υ ⟨fun _ => hq υ h1 (fun a b ha hb t => ?_), fun c => ?_⟩
      · rw [h2 a b ha hb t]
        constructor
        · rintro (⟨r', z⟩ | ⟨-, q, hq, -⟩)
          · exact ⟨r', z⟩
          · exact absurd hq List.not_mem_nil
        · rintro ⟨r', z⟩
          exact Or.inl ⟨r', z⟩
      · rw [h1 17 (by decide), hA.2.2.2.2.1.1] at c
        exact zle (by omega) c)
    (fun r υ hr ⟨h1, h2⟩ hn => by
      obtain ⟨a1, a2, a3⟩ := hA.1.2.2.2.2.2.1 r hr
      obtain ⟨b1, b2, b3⟩ := hA.2.2.2.2.1.2 r hr
      refine X0v_makeSteps_23 hG _ υ ⟨fun c => ?_, fun _ => ⟨zi_in (by omega) (by decide), fun x1 e1 => ?_⟩⟩
      · rw [h1 17 (by decide), hA.2.2.2.2.1.1] at c
        exact zge hr (by omega) c
      · rw [h1 20 (by decide), nI_clamp (by omega), b3] at e1
        subst e1
        have inner := zup (α := mS × Option Nat) (N := 12) (H := fun i st => G 40 [some (.inr 99), some (.inl (nI r)), some (.inl (enc st.2)), some (.inl (nI i))] [] st.1)
          (I := fun i st => (∀ k, k ≠ 26 → st.1 k = σ k) ∧ (∀ c, st.2 = some c → c < A.2.2.1.length) ∧ ∃ pre, pre ++ ancs A (12 - i) st.2 = ancs A 12 (rg A r).2.2 ∧ ∀ a b, a < 8 → b < 8 → ∀ t, bt (st.1 26 (a * 8 + b)) t = true ↔ Sp A r pre t a b)
          (fun st ⟨g1, g2, pre, g3, g4⟩ => X0v_makeSteps_40 hG _ _ _ st.1 ⟨fun _ => by
            have := hn st.1 ⟨g1, fun a b ha hb t => by
              have g3 : pre ++ [] = ancs A 12 (rg A r).2.2 := g3
              rw [List.append_nil] at g3
              rw [g4 a b ha hb t, g3]
              exact Sp.next⟩
            rw [← nI_1] at this
            exact this, fun c => zle (by decide) c⟩)
          (fun i st hi ⟨g1, g2, pre, g3, g4⟩ hnx => by
            obtain ⟨w, ro⟩ := st
            dsimp only at g1 g2 g3 g4 ⊢
            obtain ⟨k, hk⟩ : ∃ k, 12 - i = k + 1 := ⟨11 - i, by omega⟩
            rw [hk] at g3
            refine X0v_makeSteps_40 hG _ _ _ w ⟨fun c => zge hi (by decide) c, fun _ => ⟨fun c => ?_, fun c => ?_⟩⟩
            · cases ro with
              | none =>
                have := hn w ⟨g1, fun a b ha hb t => by
                  have g3 : pre ++ [] = ancs A 12 (rg A r).2.2 := g3
                  rw [List.append_nil] at g3
                  rw [g4 a b ha hb t, g3]
                  exact Sp.next⟩
                rw [← nI_1] at this
                exact this
              | some q =>
                have := g2 q rfl
                exact absurd c (nI_pos (by omega))
            · cases ro with
              | none => exact absurd (show enc none < 0 by decide) c
              | some q =>
                have hqr := g2 q rfl
                obtain ⟨c1, c2, c3⟩ := hA.1.2.2.2.2.2.1 q hqr
                obtain ⟨d1, d2, d3⟩ := hA.2.2.2.2.1.2 q hqr
                have hcq : (enc (some q)).toNatClampNeg = q := nI_clamp (by omega)
                have hvq : vp_in (enc (some q)) 12 := zi_in (by omega) (by decide)
                have hcr : (nI r).toNatClampNeg = r := nI_clamp (by omega)
                rw [hcq, hcr]
                refine ⟨hvq, fun x1 e1 => ?_⟩
                rw [g1 19 (by decide), d2] at e1
                subst e1
                obtain ⟨f1, f2⟩ := hA.wb.1 (rg A q).2.1 (by omega)
                refine ⟨zi_in (by omega) (by decide), fun x2 e2 => ?_⟩
                rw [g1 0 (by decide), nI_clamp (by omega), f1] at e2
                subst e2
                refine ⟨zi_in f2 (by decide), fun x3 e3 => ⟨zi_in (by omega) (by decide), fun x4 e4 => ?_⟩⟩
                rw [g1 1 (by decide), nI_clamp (by omega), hA.mskE (by omega)] at e3
                rw [g1 19 (by decide), b2] at e4
                subst e3 e4
                obtain ⟨f3, f4⟩ := hA.wb.1 (rg A r).2.1 (by omega)
                refine ⟨zi_in (by omega) (by decide), fun x5 e5 => ?_⟩
                rw [g1 0 (by decide), nI_clamp (by omega), f3] at e5
                subst e5
                refine ⟨zi_in f4 (by decide), fun x6 e6 => ⟨zi_in (by omega) (by decide), fun x7 e7 => ?_⟩⟩
                rw [g1 1 (by decide), nI_clamp (by omega), hA.mskE (by omega)] at e6
                rw [g1 18 (by decide), b1] at e7
                subst e6 e7
                refine ⟨⟨_, _, _, a1, rfl⟩, fun s8 h8 => ?_⟩
                have h8 := h8 _ _ _ a1 rfl
                have hk8 : ∀ k, k ≠ 26 → s8 k = σ k := fun k hk => by rw [h8, fAS_k hk]; exact g1 k hk
                refine ⟨hvq, fun x9 e9 => ?_⟩
                rw [hk8 20 (by decide), d3] at e9
                subst e9
                have := hnx (s8, (rg A q).2.2) ⟨hk8, fun c' hc' => by have := c3 c' hc'; omega, pre ++ [q], by
                  rw [show 12 - (i + 1) = k by omega, List.append_assoc]
                  exact g3, fun a b ha hb t => ?_⟩
                · rw [← nI_1] at this
                  exact this
                · dsimp only
                  have h16 : w 16 0 = zmask A.2.1 := by rw [g1 16 (by decide)]; exact hA.2.2.2.1
                  have hbit : bt (s8 26 (a * 8 + b)) t = true ↔ (bt (w 26 (a * 8 + b)) t = true ∨ ((bt (msk A.1 (rg A q).2.1) a = true ∧ bt (msk A.1 (rg A r).2.1) b = true ∧ ¬ (a = b ∧ A.2.1 a = true)) ∧ t = (rg A r).1)) := by
                    rw [h8, fAS_26, scnd_at _ _ _ hb, h16, zmask_bt, decide_eq_true ha]
                    by_cases hc : a * 8 + b < 64 ∧ (bt (msk A.1 (rg A q).2.1) a && (bt (msk A.1 (rg A r).2.1) b && !(decide (a = b) && (true && A.2.1 a)))) = true
                    · rw [if_pos hc, b_or, Bool.or_eq_true]
                      have hc2 := hc.2
                      simp only [Bool.and_eq_true, Bool.not_eq_true', Bool.true_and, Bool.and_eq_false_iff, decide_eq_false_iff_not] at hc2
                      have hnn : ¬ (a = b ∧ A.2.1 a = true) := by
                        rintro ⟨z1, z2⟩
                        rcases hc2.2.2 with z | z
                        · exact z z1
                        · rw [z] at z2; cases z2
                      constructor
                      · rintro (z | z)
                        · exact Or.inl z
                        · right
                          refine ⟨⟨hc2.1, hc2.2.1, hnn⟩, ?_⟩
                          have z32 := zb_lt z
                          rw [zb_one (by omega) z32] at z
                          exact of_decide_eq_true z
                      · rintro (z | ⟨-, z⟩)
                        · exact Or.inl z
                        · right
                          rw [z, zb_one (by omega) (by omega)]
                          simp
                    · rw [if_neg hc]
                      constructor
                      · exact Or.inl
                      · rintro (z | ⟨⟨z1, z2, z3⟩, -⟩)
                        · exact z
                        · exfalso
                          refine hc ⟨by omega, ?_⟩
                          rw [z1, z2]
                          cases hab : decide (a = b) <;> cases hon : A.2.1 a <;> simp_all
                  rw [hbit, g4 a b ha hb t]
                  constructor
                  · rintro ((z | ⟨z1, q', z2, z3⟩) | ⟨z1, z2⟩)
                    · exact Or.inl z
                    · exact Or.inr ⟨z1, q', List.mem_append_left _ z2, z3⟩
                    · exact Or.inr ⟨z2.symm, q, List.mem_append_right _ (List.mem_singleton.mpr rfl), z1⟩
                  · rintro (z | ⟨z1, q', z2, z3⟩)
                    · exact Or.inl (Or.inl z)
                    · rcases List.mem_append.mp z2 with z2 | z2
                      · exact Or.inl (Or.inr ⟨z1, q', z2, z3⟩)
                      · rw [List.mem_singleton] at z2
                        subst z2
                        exact Or.inr ⟨z3, z1.symm⟩)
        refine inner 0 (υ, (rg A r).2.2) (by omega) ⟨h1, fun c hc => by have := a3 c hc; omega, [], rfl, h2⟩)
  have key2 := zup (α := mS) (N := 64) (H := fun i υ => G 2 [some (.inr 99), some (.inl (nI i)), none, none] [] υ) (I := fun i υ => (∀ k, k ≠ 26 → υ k = σ k) ∧ ∀ e, e < i → υ 26 e = 0)
    (fun υ ⟨h1, h2⟩ => X0v_makeSteps_2 hG _ υ ⟨fun _ => key23 0 υ (by omega) ⟨h1, fun a b ha hb t => by
      rw [h2 _ (by omega), b_0]
      constructor
      · intro z; cases z
      · rintro (⟨r', z, -⟩ | ⟨-, q, z, -⟩)
        · omega
        · exact absurd z List.not_mem_nil⟩, fun c => zle (by decide) c⟩)
    (fun i υ hi ⟨h1, h2⟩ hn => by
      refine X0v_makeSteps_2 hG _ υ ⟨fun c => zge hi (by decide) c, fun _ => ⟨zi_in hi (by decide), ?_⟩⟩
      rw [nI_clamp (by omega)]
      have := hn (mU υ 26 i 0) ⟨fun k hk => by rw [mU_ne hk]; exact h1 k hk, fun e he => by
        by_cases q : e = i
        · rw [q, mU_s]
        · rw [mU_o (Or.inr q)]
          exact h2 e (by omega)⟩
      rw [← nI_1] at this
      exact this)
  exact ⟨Or.inl (Nat.le_of_ble_eq_true rfl), X0v_makeSteps_0 hG σ (key2 0 σ (by omega) ⟨fun _ _ => rfl, fun e he => absurd he (Nat.not_lt_zero e)⟩)⟩
theorem X0d_stepFrom (G : Nat → mL → List mv → mS → Prop) (Q : Option Int32 → mS → Prop) (vs : List Int32) (σ : mS) (hG : mCl X0g_stepFrom G Q) (h : X0t_stepFrom vs σ Q) : (vs.length + 1 ≤ 4 ∨ (true = false ∧ vs.length ≤ 4)) ∧ G 0 (mL0 4 true vs) [] σ := by
  obtain ⟨⟨s, t, b, hs, ht, rfl⟩, h⟩ := h
  have hq : Q (some (if σ 26 (sIx b s t) = 0 then 0 else 1)) σ := h _ fun s' t' b' hs' ht' e => by
    obtain ⟨e1, e2⟩ := List.cons.inj e
    obtain ⟨e2, e3⟩ := List.cons.inj e2
    obtain ⟨e3, -⟩ := List.cons.inj e3
    cases zn_inj (by omega) (by omega) e1
    cases zn_inj (by omega) (by omega) e2
    cases e3
    rfl
  unfold sIx at hq
  refine ⟨Or.inl (Nat.le_refl 4), X0v_stepFrom_0 hG _ _ _ σ ⟨fun c => ?_, fun c => ?_⟩⟩
  · rw [if_pos c] at hq
    rw [zn_ix8, nI_clamp (by omega)]
    refine ⟨zi_in (by omega) (by decide), fun x1 e1 => ⟨fun d => ⟨Or.inl rfl, ?_⟩, fun d => ⟨Or.inr rfl, ?_⟩⟩⟩
    · rw [e1] at d
      rw [if_pos d] at hq
      exact hq
    · rw [e1] at d
      rw [if_neg d] at hq
      exact hq
  · rw [if_neg c] at hq
    rw [zn_ix8, nI_clamp (by omega)]
    refine ⟨zi_in (by omega) (by decide), fun x1 e1 => ⟨fun d => ⟨Or.inl rfl, ?_⟩, fun d => ⟨Or.inr rfl, ?_⟩⟩⟩
    · rw [e1] at d
      rw [if_pos d] at hq
      exact hq
    · rw [e1] at d
      rw [if_neg d] at hq
      exact hq
theorem z_two1 : ∀ k, k < 16 → ¬ nI k &&& (nI k - 1) = 0 → ∃ t1, t1 < 4 ∧ ∃ t2, t2 < 4 ∧ t1 ≠ t2 ∧ bt (nI k) t1 = true ∧ bt (nI k) t2 = true := by decide +kernel
theorem z_two2' : ∀ k, k < 16 → ∀ t1, t1 < 4 → ∀ t2, t2 < 4 → (decide (nI k &&& (nI k - 1) = 0) && (bt (nI k) t1 && bt (nI k) t2)) = true → t1 = t2 := by decide +kernel
theorem z_two2 (k : Nat) (hk : k < 16) (h : nI k &&& (nI k - 1) = 0) (t1 : Nat) (h1 : t1 < 4) (t2 : Nat) (h2 : t2 < 4) (b1 : bt (nI k) t1 = true) (b2 : bt (nI k) t2 = true) : t1 = t2 := z_two2' k hk t1 h1 t2 h2 (by rw [decide_eq_true h, b1, b2]; rfl)
theorem z4_of {x : Int32} (h4 : ∀ s, bt x s = true → s < 4) : ∃ k, k < 16 ∧ x = nI k := by
  obtain ⟨k, hk, e⟩ := pk_andE x (m := 15) 4 (by decide +kernel)
  refine ⟨k, hk, ?_⟩
  rw [← e]
  refine b_ext fun i hi => ?_
  have h15 : ∀ i, i < 32 → bt 15 i = decide (i < 4) := by decide +kernel
  rw [b_and, h15 i hi]
  cases hb : bt x i
  · rfl
  · rw [decide_eq_true (h4 i hb)]
    rfl
theorem X0d_twoThreads (G : Nat → mL → List mv → mS → Prop) (Q : Option Int32 → mS → Prop) (vs : List Int32) (σ : mS) (hG : mCl X0g_twoThreads G Q) (h : X0t_twoThreads vs σ Q) : (vs.length + 1 ≤ 5 ∨ (true = false ∧ vs.length ≤ 5)) ∧ G 0 (mL0 5 true vs) [] σ := by
  obtain ⟨⟨x, rfl, h4⟩, h⟩ := h
  have hq : ∀ r, (¬ r = 0 ↔ ∃ t1 t2, t1 ≠ t2 ∧ TT σ x t1 ∧ TT σ x t2) → Q (some r) σ := fun r hr => h r fun x' e => by cases e; exact hr
  have key := zup (α := Int32) (N := 8) (H := fun s th => G 4 [some (.inr 99), some (.inl x), some (.inl th), some (.inl (nI s)), none] [] σ)
    (I := fun s th => ∀ t, bt th t = true ↔ ∃ a b, a < s ∧ b < 8 ∧ bt x a = true ∧ bt x b = true ∧ bt (σ 26 (a * 8 + b)) t = true)
    (fun th hth => by
      obtain ⟨k, hk, rfl⟩ := z4_of (x := th) (fun t ht => by
        obtain ⟨a, b, ha, hb, -, -, hab⟩ := (hth t).mp ht
        exact h4 a b ha hb t hab)
      refine X0v_twoThreads_4 hG _ _ _ σ ⟨fun _ => ⟨fun c => ⟨Or.inl rfl, hq 0 ⟨fun z => absurd rfl z, fun ⟨t1, t2, hne, z1, z2⟩ => ?_⟩⟩, fun c => ⟨Or.inr rfl, hq 1 ⟨fun _ => ?_, fun _ => by decide⟩⟩⟩, fun c => zle (by decide) c⟩
      · have b1 := (hth t1).mpr z1
        have b2 := (hth t2).mpr z2
        obtain ⟨a, b, ha, hb, -, -, hab⟩ := z1
        obtain ⟨a', b', ha', hb', -, -, hab'⟩ := z2
        exact absurd (z_two2 k hk c t1 (h4 a b ha hb t1 hab) t2 (h4 a' b' ha' hb' t2 hab') b1 b2) hne
      · obtain ⟨t1, -, t2, -, hne, b1, b2⟩ := z_two1 k hk c
        exact ⟨t1, t2, hne, (hth t1).mp b1, (hth t2).mp b2⟩)
    (fun s th hs hth hn => by
      refine X0v_twoThreads_4 hG _ _ _ σ ⟨fun c => zge hs (by decide) c, fun _ => ?_⟩
      have inner := zup (α := Int32) (N := 8) (H := fun t th => G 13 [some (.inr 99), some (.inl x), some (.inl th), some (.inl (nI s)), some (.inl (nI t))] [] σ)
        (I := fun t th => ∀ u, bt th u = true ↔ ∃ a b, (a < s ∨ (a = s ∧ b < t)) ∧ b < 8 ∧ bt x a = true ∧ bt x b = true ∧ bt (σ 26 (a * 8 + b)) u = true)
        (fun th hth => X0v_twoThreads_13 hG _ _ _ _ σ ⟨fun _ => by
          have := hn th (fun u => by
            rw [hth u]
            constructor
            · rintro ⟨a, b, z, z2⟩
              exact ⟨a, b, by omega, z2⟩
            · rintro ⟨a, b, z, z2⟩
              exact ⟨a, b, by omega, z2⟩)
          rw [← nI_1] at this
          exact this, fun c => zle (by decide) c⟩)
        (fun t th ht hth hn2 => by
          have same : (¬ (bt x s = true ∧ bt x t = true)) → G 13 [some (.inr 99), some (.inl x), some (.inl th), some (.inl (nI s)), some (.inl (nI t + 1))] [] σ := fun hc => by
            have := hn2 th (fun u => by
              rw [hth u]
              constructor
              · rintro ⟨a, b, z, z2⟩
                exact ⟨a, b, by omega, z2⟩
              · rintro ⟨a, b, z, z2, z3, z4, z5⟩
                refine ⟨a, b, ?_, z2, z3, z4, z5⟩
                rcases z with z | ⟨z, z'⟩
                · exact Or.inl z
                · refine Or.inr ⟨z, ?_⟩
                  rcases Nat.lt_or_ge b t with q | q
                  · exact q
                  · have e : b = t := by omega
                    subst e z
                    exact absurd ⟨z3, z4⟩ hc)
            rw [← nI_1] at this
            exact this
          refine X0v_twoThreads_13 hG _ _ _ _ σ ⟨fun c => zge ht (by decide) c, fun _ => ⟨fun a => same (fun q => a ((zb_is1 x (by omega)).mpr q.1)), fun a => ⟨fun b => same (fun q => b ((zb_is1 x (by omega)).mpr q.2)), fun b => ?_⟩⟩⟩
          rw [zn_ix8, nI_clamp (by omega)]
          refine ⟨zi_in (by omega) (by decide), fun x1 e1 => ?_⟩
          have ba := (zb_is1 x (show s < 31 by omega)).mp a
          have bb := (zb_is1 x (show t < 31 by omega)).mp b
          have := hn2 (th ||| x1) (fun u => by
            rw [b_or, Bool.or_eq_true, hth u, e1]
            constructor
            · rintro (⟨a, b, z, z2⟩ | z)
              · exact ⟨a, b, by omega, z2⟩
              · exact ⟨s, t, by omega, ht, ba, bb, z⟩
            · rintro ⟨a, b, z, z2, z3, z4, z5⟩
              rcases z with z | ⟨z, z'⟩
              · exact Or.inl ⟨a, b, Or.inl z, z2, z3, z4, z5⟩
              · rcases Nat.lt_or_ge b t with q | q
                · exact Or.inl ⟨a, b, Or.inr ⟨z, q⟩, z2, z3, z4, z5⟩
                · have e : b = t := by omega
                  subst e z
                  exact Or.inr z5)
          rw [← nI_1] at this
          exact this)
      refine inner 0 th (by omega) (fun u => ?_)
      rw [hth u]
      constructor
      · rintro ⟨a, b, z, z2⟩
        exact ⟨a, b, by omega, z2⟩
      · rintro ⟨a, b, z, z2⟩
        exact ⟨a, b, by omega, z2⟩)
  refine ⟨Or.inl (Nat.le_of_ble_eq_true rfl), X0v_twoThreads_0 hG _ σ (key 0 0 (by omega) (fun t => ?_))⟩
  rw [b_0]
  constructor
  · intro z; cases z
  · rintro ⟨a, b, z, -⟩
    exact absurd z (Nat.not_lt_zero a)
end
section
/-! walk and danger -/
set_option maxRecDepth 100000
def SR (σ : mS) : List (Nat × Nat) → Prop
  | [] => True
  | p :: l => σ 31 l.length = nI p.1 ∧ σ 32 l.length = nI p.2 ∧ SR σ l
theorem SR.keep {σ τ : mS} : ∀ (l : List (Nat × Nat)), (∀ i, i < l.length → τ 31 i = σ 31 i ∧ τ 32 i = σ 32 i) → SR σ l → SR τ l
  | [], _, _ => trivial
  | p :: l, h, hs => by
    obtain ⟨a, b⟩ := h l.length (by simp)
    exact ⟨a.trans hs.1, b.trans hs.2.1, SR.keep l (fun i hi => h i (by simp; omega)) hs.2.2⟩
def inB (l : List (Nat × Nat)) (L : List Nat) (v : Nat) : Bool := decide (v ∈ L) || decide (v ∈ l.map Prod.fst)
theorem inB_fin (s n : Nat) (l : List (Nat × Nat)) (L : List Nat) : inB l (L ++ [s]) = inB ((s, n) :: l) L := by
  funext v
  unfold inB
  rw [← Bool.decide_or, ← Bool.decide_or]
  refine decide_eq_decide.mpr ?_
  simp only [List.mem_append, List.map_cons, List.mem_cons, List.not_mem_nil, or_false]
  constructor
  · rintro ((a | a) | a)
    · exact Or.inl a
    · exact Or.inr (Or.inl a)
    · exact Or.inr (Or.inr a)
  · rintro (a | a | a)
    · exact Or.inl (Or.inl a)
    · exact Or.inl (Or.inr a)
    · exact Or.inr a
theorem inB_adv (s n m : Nat) (l : List (Nat × Nat)) (L : List Nat) : inB ((s, n) :: l) L = inB ((s, m) :: l) L := rfl
theorem inB_push (s n m k : Nat) (l : List (Nat × Nat)) (L : List Nat) (v : Nat) : inB ((m, k) :: (s, n) :: l) L v = (inB ((s, n) :: l) L v || decide (v = m)) := by
  unfold inB
  rw [← Bool.decide_or, ← Bool.decide_or, ← Bool.decide_or]
  refine decide_eq_decide.mpr ?_
  simp only [List.map_cons, List.mem_cons]
  constructor
  · rintro (a | a | a)
    · exact Or.inl (Or.inl a)
    · exact Or.inr a
    · exact Or.inl (Or.inr a)
  · rintro ((a | a) | a)
    · exact Or.inl a
    · exact Or.inr (Or.inr a)
    · exact Or.inr (Or.inl a)
theorem inB_nil (L : List Nat) : inB [] L = fun v => decide (v ∈ L) := by
  funext v
  unfold inB
  simp
theorem DI.len {E : Nat → Nat → Prop} {D : Nat → Bool} {F0 : List Nat} {s0 : Nat} {l : List (Nat × Nat)} {L : List Nat} (h : DI E D F0 s0 l L) : F0.length + (l.length + L.length) ≤ 8 := by
  have hj := h.2.2.2.2.2.2.1
  have hn : (F0 ++ (l.map Prod.fst ++ L)).Nodup := by
    rw [List.nodup_append]
    refine ⟨hj.1, h.1, fun x hx y hy e => ?_⟩
    subst e
    have := (hj.2.1 x hx).2.1
    rw [(h.2.1 x hy).2.1] at this
    cases this
  have hs : F0 ++ (l.map Prod.fst ++ L) ⊆ List.range 8 := fun v hv => by
    rw [List.mem_range]
    rcases List.mem_append.mp hv with q | q
    · exact (hj.2.1 v q).1
    · exact (h.2.1 v q).1
  have := List.Nodup.length_le_of_subset hn hs
  rw [List.length_append, List.length_append, List.length_map, List.length_range] at this
  exact this
theorem wk_iff {D : Nat → Bool} {l : List (Nat × Nat)} {L : List Nat} {v : Nat} (hv : v < 8) : bt (zmask (fun v => D v || inB l L v)) v = true ↔ wk D l L v := by
  rw [zmask_bt, decide_eq_true hv]
  unfold inB wk
  simp
theorem X0d_walk (G : Nat → mL → List mv → mS → Prop) (Q : Option Int32 → mS → Prop) (vs : List Int32) (σ : mS) (hG : mCl X0g_walk G Q) (h : X0t_walk vs σ Q) : (vs.length + 1 ≤ 9 ∨ (true = false ∧ vs.length ≤ 9)) ∧ G 0 (mL0 9 true vs) [] σ := by
  obtain ⟨⟨D, F0⟩, ⟨s0, b, hs0, rfl, hw, hD0, hJ, h29, h28⟩, h⟩ := h
  dsimp only at hw hD0 hJ h29 h28
  have hq : ∀ r τ L, DI (EW σ b) D F0 s0 [] L → r = zmask (fun v => decide (v ∈ L)) → τ 27 0 = zmask (fun v => D v || decide (v ∈ L)) → τ 29 0 = nI (F0.length + L.length) → (∀ (i u : Nat), (F0 ++ L)[i]? = some u → τ 28 i = nI u) → (∀ k, k ≠ 27 → k ≠ 28 → k ≠ 29 → k ≠ 31 → k ≠ 32 → τ k = σ k) → Q (some r) τ := by
    intro r τ L a1 a2 a3 a4 a5 a6
    refine h r τ fun s' b' hs' e => ?_
    obtain ⟨e1, e2⟩ := List.cons.inj e
    obtain ⟨e2, -⟩ := List.cons.inj e2
    cases zn_inj (by omega) (by omega) e1
    cases e2
    exact ⟨L, a1, a2, a3, a4, a5, a6⟩
  have key : ∀ (k i : Nat) (υ : mS) (l : List (Nat × Nat)) (L : List Nat), DI (EW σ b) D F0 s0 l L → υ 27 0 = zmask (fun v => D v || inB l L v) → υ 29 0 = nI (F0.length + L.length) → (∀ (i u : Nat), (F0 ++ L)[i]? = some u → υ 28 i = nI u) → SR υ l → (∀ k, k ≠ 27 → k ≠ 28 → k ≠ 29 → k ≠ 31 → k ≠ 32 → υ k = σ k) → wmu D l L ≤ k → i + k ≤ 100 →
      G 36 [some (.inr 99), some (.inl (nI s0)), some (.inl b), some (.inl (zmask (inB l L))), some (.inl (nI l.length)), some (.inl (nI i)), none, none, none] [] υ := by
    intro k
    induction k with
    | zero =>
      intro i υ l L hI c1 c2 c3 c4 c5 hmu hk
      cases l with
      | nil =>
        have hend : Q (some (zmask (inB [] L))) υ := hq _ υ L hI (by rw [inB_nil]) (by rw [c1, inB_nil]) c2 c3 c5
        exact X0v_walk_36 hG _ _ _ _ _ υ ⟨fun _ => hend, fun _ => ⟨fun _ => hend, fun c => absurd (show nI ([] : List (Nat × Nat)).length ≤ 0 by decide) c⟩⟩
      | cons p l =>
        have hp := hI.2.2.1 p List.mem_cons_self
        have e : wsum (p :: l) = (9 - p.2) + wsum l := rfl
        unfold wmu at hmu
        omega
    | succ k ih =>
      intro i υ l L hI c1 c2 c3 c4 c5 hmu hk
      cases l with
      | nil =>
        have hend : Q (some (zmask (inB [] L))) υ := hq _ υ L hI (by rw [inB_nil]) (by rw [c1, inB_nil]) c2 c3 c5
        exact X0v_walk_36 hG _ _ _ _ _ υ ⟨fun _ => hend, fun _ => ⟨fun _ => hend, fun c => absurd (show nI ([] : List (Nat × Nat)).length ≤ 0 by decide) c⟩⟩
      | cons p l =>
        obtain ⟨s, n⟩ := p
        have hlen := hI.len
        have hn8 : n ≤ 8 := hI.2.2.1 (s, n) List.mem_cons_self
        have hs8 : s < 8 := (hI.2.1 s List.mem_cons_self).1
        rw [List.length_cons] at hlen
        obtain ⟨r1, r2, r3⟩ := c4
        dsimp only at r1 r2
        have hdep : nI ((s, n) :: l).length - 1 = nI l.length := by
          rw [List.length_cons]
          exact nI_pred l.length
        have hcl : (nI l.length).toNatClampNeg = l.length := nI_clamp (by omega)
        have hil := zi_in (show l.length < 9 by omega) (show 9 < 2 ^ 31 by decide)
        refine X0v_walk_36 hG _ _ _ _ _ υ ⟨fun c => absurd c (nI_ge (show i < 200 by omega) (by decide)), fun _ => ⟨fun c => absurd c (nI_nle (by rw [List.length_cons]; omega) (by rw [List.length_cons]; omega)), fun _ => ?_⟩⟩
        rw [hdep, hcl]
        refine ⟨hil, fun x1 e1 => ⟨hil, fun x2 e2 => ?_⟩⟩
        rw [r1] at e1
        rw [r2] at e2
        subst e1 e2
        refine ⟨fun d => ⟨hil, ?_⟩, fun d => ?_⟩
        · have hn : n < 8 := by
            rcases Nat.lt_or_ge n 8 with z | z
            · exact z
            · have e : n = 8 := by omega
              subst e
              exact absurd rfl d
          refine ⟨⟨s, n, b, hs8, hn, rfl⟩, fun x3 h3 => ?_⟩
          have h3 := h3 s n b hs8 hn rfl
          rw [mU_ne (by decide), c5 26 (by decide) (by decide) (by decide) (by decide) (by decide)] at h3
          rw [nI_1 n]
          have hSR1 : SR (mU υ 32 l.length (nI (n + 1))) ((s, n + 1) :: l) := ⟨by rw [mU_ne (by decide)]; exact r1, mU_s, SR.keep l (fun j hj => ⟨by rw [mU_ne (by decide)], by rw [mU_o (Or.inr (by omega))]⟩) r3⟩
          have hadv : (EW σ b s n → wk D ((s, n) :: l) L n) → G 36 [some (.inr 99), some (.inl (nI s0)), some (.inl b), some (.inl (zmask (inB ((s, n) :: l) L))), some (.inl (nI ((s, n) :: l).length)), some (.inl (nI i + 1)), none, none, none] [] (mU υ 32 l.length (nI (n + 1))) := by
            intro hwk
            have := ih (i + 1) (mU υ 32 l.length (nI (n + 1))) ((s, n + 1) :: l) L (hI.adv hn hwk) (by rw [mU_ne (by decide)]; exact c1) (by rw [mU_ne (by decide)]; exact c2) (fun j u hj => by rw [mU_ne (by decide)]; exact c3 j u hj) hSR1 (fun j h1 h2 h3 h4 h5 => by rw [mU_ne h5]; exact c5 j h1 h2 h3 h4 h5) (by have := wmu_adv D (s := s) hn l L; omega) (by omega)
            rw [← nI_1] at this
            exact this
          refine ⟨fun a => hadv (fun he => ?_), fun a => ⟨fun c => hadv (fun _ => ?_), fun c => ?_⟩⟩
          · rw [h3, if_neg he.2.2] at a
            exact absurd a (by decide)
          · have hb : bt (υ 27 0) n = true := by
              cases hb : bt (υ 27 0) n
              · exact absurd ((zb_is0 _ (by omega)).mpr hb) c
              · rfl
            rw [c1] at hb
            exact (wk_iff hn).mp hb
          · have hE : EW σ b s n := by
              refine ⟨hs8, hn, fun q => a ?_⟩
              rw [h3, if_pos q]
            have hb : bt (υ 27 0) n = false := (zb_is0 _ (by omega)).mp c
            have hnw : ¬ wk D ((s, n) :: l) L n := fun q => by
              rw [← wk_iff hn, ← c1, hb] at q
              cases q
            have hI2 := hI.push hn hE hnw
            have hlen2 := hI2.len
            rw [List.length_cons, List.length_cons] at hlen2
            have hd9 := zi_in (show ((s, n) :: l).length < 9 by rw [List.length_cons]; omega) (show 9 < 2 ^ 31 by decide)
            have hcd : (nI ((s, n) :: l).length).toNatClampNeg = l.length + 1 := by
              rw [nI_clamp (by rw [List.length_cons]; omega), List.length_cons]
            rw [hcd]
            refine ⟨hd9, hd9, ?_⟩
            have hset : ∀ (p : Nat → Bool), zmask p ||| ((1 : Int32) <<< (nI n &&& 31)) = zmask (fun v => p v || decide (v = n)) := by
              intro p
              refine zmask_eq fun v => ?_
              rw [b_or, zmask_bt]
              rcases Nat.lt_or_ge v 8 with hv | hv
              · rw [zb_one (by omega) (by omega)]
                simp [hv]
              · rw [decide_eq_false (show ¬ v < 8 by omega)]
                rcases Nat.lt_or_ge v 32 with hv2 | hv2
                · rw [zb_one (by omega) hv2, decide_eq_false (show ¬ v = n by omega)]
                  rfl
                · rw [b_big hv2]
                  rfl
            have := ih (i + 1) (mU (mU (mU (mU υ 32 l.length (nI (n + 1))) 27 0 (υ 27 0 ||| ((1 : Int32) <<< (nI n &&& 31)))) 31 (l.length + 1) (nI n)) 32 (l.length + 1) 0) ((n, 0) :: (s, n + 1) :: l) L hI2 ?_ ?_ ?_ ?_ ?_ (by have := wmu_push D (s := s) hn l L hnw; omega) (by omega)
            · rw [hset]
              have e1 : inB ((n, 0) :: (s, n + 1) :: l) L = fun v => inB ((s, n) :: l) L v || decide (v = n) := funext fun v => inB_push s (n + 1) n 0 l L v
              rw [e1, ← nI_1] at this
              have e2 : nI ((s, n) :: l).length + 1 = nI ((n, 0) :: (s, n + 1) :: l).length := by
                rw [nI_1]
                rfl
              rw [e2]
              exact this
            · rw [mU_ne (by decide), mU_ne (by decide), mU_s, c1, hset]
              congr 1
              funext v
              rw [inB_push, Bool.or_assoc]
              rfl
            · rw [mU_ne (by decide), mU_ne (by decide), mU_ne (by decide), mU_ne (by decide)]
              exact c2
            · intro j u hj
              rw [mU_ne (by decide), mU_ne (by decide), mU_ne (by decide), mU_ne (by decide)]
              exact c3 j u hj
            · refine ⟨?_, mU_s, SR.keep _ (fun j hj => ?_) hSR1⟩
              · rw [mU_ne (by decide)]
                exact mU_s
              · have hj : j < l.length + 1 := hj
                refine ⟨?_, ?_⟩
                · rw [mU_ne (by decide), mU_o (Or.inr (by omega)), mU_ne (by decide)]
                · rw [mU_o (Or.inr (by omega)), mU_ne (by decide), mU_ne (by decide)]
            · intro j h1 h2 h3 h4 h5
              rw [mU_ne h5, mU_ne h4, mU_ne h1, mU_ne h5]
              exact c5 j h1 h2 h3 h4 h5
        · have e8 : n = 8 := zn_inj (by omega) (by omega) d
          subst e8
          have hI2 := hI.fin
          rw [c2]
          refine ⟨zi_in (by omega) (by decide), ?_⟩
          rw [nI_clamp (n := F0.length + L.length) (by omega), nI_1 (F0.length + L.length)]
          have hd1 : nI ((s, 8) :: l).length + (-1) = nI l.length := by
            rw [List.length_cons]
            exact pk_m1 l.length
          rw [hd1]
          have := ih (i + 1) (mU (mU υ 28 (F0.length + L.length) (nI s)) 29 0 (nI (F0.length + L.length + 1))) l (L ++ [s]) hI2 ?_ ?_ ?_ ?_ ?_ (by have := wmu_fin D s l L; omega) (by omega)
          · rw [inB_fin s 8, ← nI_1] at this
            exact this
          · rw [mU_ne (by decide), mU_ne (by decide), c1, inB_fin s 8]
          · rw [mU_s, List.length_append, List.length_singleton, Nat.add_assoc]
          · intro j u hj
            rw [mU_ne (by decide)]
            rw [← List.append_assoc] at hj
            rcases Nat.lt_or_ge j (F0 ++ L).length with z | z
            · rw [List.getElem?_append_left z] at hj
              rw [List.length_append] at z
              rw [mU_o (Or.inr (by omega))]
              exact c3 j u hj
            · rw [List.getElem?_append_right z] at hj
              have hz : j - (F0 ++ L).length < 1 := (List.getElem?_eq_some_iff.mp hj).1
              have hj2 : j = F0.length + L.length := by rw [List.length_append] at z hz; omega
              rw [show j - (F0 ++ L).length = 0 by omega] at hj
              cases hj
              rw [hj2, mU_s]
          · exact SR.keep l (fun j hj => ⟨by rw [mU_ne (by decide), mU_ne (by decide)], by rw [mU_ne (by decide), mU_ne (by decide)]⟩) r3
          · intro j h1 h2 h3 h4 h5
            rw [mU_ne h3, mU_ne h2]
            exact c5 j h1 h2 h3 h4 h5
  have h09 := zi_in (show 0 < 9 by decide) (show 9 < 2 ^ 31 by decide)
  refine ⟨Or.inl (Nat.le_of_ble_eq_true rfl), X0v_walk_0 hG _ _ σ ⟨h09, h09, ?_⟩⟩
  have hset : ∀ (p : Nat → Bool), zmask p ||| ((1 : Int32) <<< (nI s0 &&& 31)) = zmask (fun v => p v || decide (v = s0)) := by
    intro p
    refine zmask_eq fun v => ?_
    rw [b_or, zmask_bt]
    rcases Nat.lt_or_ge v 8 with hv | hv
    · rw [zb_one (by omega) (by omega)]
      simp [hv]
    · rw [decide_eq_false (show ¬ v < 8 by omega)]
      rcases Nat.lt_or_ge v 32 with hv2 | hv2
      · rw [zb_one (by omega) hv2, decide_eq_false (show ¬ v = s0 by omega)]
        rfl
      · rw [b_big hv2]
        rfl
  have e0 : (0 : Int32).toNatClampNeg = 0 := by decide
  rw [e0]
  have hin1 : inB [(s0, 0)] [] = fun v => decide (v = s0) := by
    funext v
    unfold inB
    simp
  have hz1 : (1 : Int32) <<< (nI s0 &&& 31) = zmask (inB [(s0, 0)] []) := by
    rw [hin1]
    refine zmask_eq fun v => ?_
    rcases Nat.lt_or_ge v 32 with hv2 | hv2
    · rw [zb_one (by omega) hv2]
      by_cases e : v = s0
      · rw [decide_eq_true e, decide_eq_true (by omega)]
        rfl
      · rw [decide_eq_false e]
        simp
    · rw [b_big hv2, decide_eq_false (show ¬ v < 8 by omega)]
      rfl
  have := key 90 0 (mU (mU (mU σ 27 0 (σ 27 0 ||| ((1 : Int32) <<< (nI s0 &&& 31)))) 31 0 (nI s0)) 32 0 0) [(s0, 0)] [] (DI.start hs0 hD0 hJ) ?_ ?_ ?_ ?_ ?_ (by have := wmu_0 D s0; omega) (by omega)
  · rw [← hz1] at this
    exact this
  · rw [mU_ne (by decide), mU_ne (by decide), mU_s, hw, hset]
    congr 1
    funext v
    rw [hin1]
  · rw [mU_ne (by decide), mU_ne (by decide), mU_ne (by decide)]
    exact h29
  · intro j u hj
    rw [List.append_nil] at hj
    rw [mU_ne (by decide), mU_ne (by decide), mU_ne (by decide)]
    exact h28 j u hj
  · refine ⟨?_, mU_s, trivial⟩
    rw [mU_ne (by decide)]
    exact mU_s
  · intro j h1 h2 h3 h4 h5
    rw [mU_ne h5, mU_ne h4, mU_ne h1]
end
section
/-! danger meets its contract -/
set_option maxRecDepth 100000
noncomputable def dB (A : AS) (v : Nat) : Bool := @decide (Dng A v) (Classical.propDecidable _)
theorem dB_iff (A : AS) (v : Nat) : dB A v = true ↔ Dng A v := by
  unfold dB
  exact @decide_eq_true_iff (Dng A v) (Classical.propDecidable _)
theorem dngm_eq (A : AS) : dngm A = zmask (dB A) := rfl
theorem stp_lt {A : AS} (hA : AW A) (h8 : ∀ x, x < 12 → ∀ s, bt (msk A.1 x) s = true → s < 8) {t a b : Nat} (h : Stp2 A t a b) : t < 4 ∧ a < 8 ∧ b < 8 := by
  obtain ⟨r, hr, ht, q, hq, h1, h2, -⟩ := h
  obtain ⟨a1, a2, a3⟩ := hA.2.2.2.2.2.1 r hr
  have hq2 := ancs_lt hA 12 _ (fun r' e => by have := a3 r' e; omega) q hq
  obtain ⟨b1, b2, -⟩ := hA.2.2.2.2.2.1 q hq2
  exact ⟨by omega, h8 _ b2 a h1, h8 _ a2 b h2⟩
theorem any_lt {A : AS} (hA : AW A) (h8 : ∀ x, x < 12 → ∀ s, bt (msk A.1 x) s = true → s < 8) {a b : Nat} (h : anyStp A a b) : a < 8 ∧ b < 8 := by
  obtain ⟨t, h⟩ := h
  exact (stp_lt hA h8 h).2
theorem ew_0 {A : AS} {σ : mS} (hA : AW A) (h8 : ∀ x, x < 12 → ∀ s, bt (msk A.1 x) s = true → s < 8) (hS : SMx A σ) : EW σ 0 = anyStp A := by
  funext s t
  refine propext ⟨fun h => ?_, fun h => ?_⟩
  · obtain ⟨hs, ht, hne⟩ := h
    obtain ⟨i, -, hi⟩ := zb_ne0.mp hne
    exact ⟨i, (hS s t hs ht i).mp hi⟩
  · obtain ⟨hs, ht⟩ := any_lt hA h8 h
    obtain ⟨i, hi⟩ := h
    have hb := (hS s t hs ht i).mpr hi
    exact ⟨hs, ht, zb_ne0.mpr ⟨i, zb_lt hb, hb⟩⟩
theorem ew_1 {A : AS} {σ : mS} (hA : AW A) (h8 : ∀ x, x < 12 → ∀ s, bt (msk A.1 x) s = true → s < 8) (hS : SMx A σ) : EW σ 1 = fun s t => anyStp A t s := by
  funext s t
  refine propext ⟨fun h => ?_, fun h => ?_⟩
  · obtain ⟨hs, ht, hne⟩ := h
    have hne : ¬ σ 26 (t * 8 + s) = 0 := hne
    obtain ⟨i, -, hi⟩ := zb_ne0.mp hne
    exact ⟨i, (hS t s ht hs i).mp hi⟩
  · obtain ⟨ht, hs⟩ := any_lt hA h8 h
    obtain ⟨i, hi⟩ := h
    have hb := (hS t s ht hs i).mpr hi
    exact ⟨hs, ht, show ¬ σ 26 (t * 8 + s) = 0 from zb_ne0.mpr ⟨i, zb_lt hb, hb⟩⟩
theorem RepX.scr {A : AS} {σ τ : mS} (h : RepX A σ) (hk : ∀ k, k < 26 → τ k = σ k) : RepX A τ := by
  obtain ⟨c1, c2⟩ := h.core (fun k hk16 => hk k (by omega))
  obtain ⟨a1, -, -, a4, a5, a6⟩ := h
  refine ⟨a1, c1, c2, ?_, ⟨?_, fun r hr => ?_⟩, ?_, fun i hi => ?_⟩
  · rw [hk 16 (by decide)]; exact a4
  · rw [hk 17 (by decide)]; exact a5.1
  · rw [hk 18 (by decide), hk 19 (by decide), hk 20 (by decide)]; exact a5.2 r hr
  · rw [hk 21 (by decide)]; exact a6.1
  · rw [hk 22 (by decide), hk 23 (by decide), hk 24 (by decide), hk 25 (by decide)]; exact a6.2 i hi
def dx (n : Nat) : Int32 := match n with
  | 0 => -1
  | n + 1 => nI n
theorem dx_m1 (n : Nat) : dx (n + 1) + (-1) = dx n := by
  cases n with
  | zero => decide
  | succ n => exact pk_m1 n
/-- one component, out of a walk backward -/
theorem scc_walk {E : Nat → Nat → Prop} {D Wd : Nat → Bool} {F : List Nat} {n s : Nat} {L : List Nat} (hJ : JJ E D F) (hE : ∀ u w, E u w → u < 8 ∧ w < 8) (hall : ∀ w, w < 8 → w ∈ F) (hs : F[n]? = some s)
    (hW : ∀ v, v < 8 → (Wd v = true ↔ ∃ (j u : Nat), n + 1 ≤ j ∧ F[j]? = some u ∧ Rch E v u ∧ Rch E u v)) (hsw : Wd s = false) (hD : DI (fun a b => E b a) Wd [] s [] L) (v : Nat) : v ∈ L ↔ v < 8 ∧ Rch E v s ∧ Rch E s v := by
  obtain ⟨d1, d2, d3, d4, d5, d6, d7, d8, d9, d10⟩ := hD
  have hs8 : s < 8 := (hJ.2.1 s (List.mem_of_getElem? hs)).1
  constructor
  · intro hv
    obtain ⟨v8, vW, vR⟩ := d2 v hv
    have hvs : Rch E v s := vR.flip
    obtain ⟨m, u, hm, hu, hvu, huv⟩ := hJ.late (hall v v8) hs hvs (fun u w h => (hE u w h).2) hall
    rcases Nat.lt_or_ge n m with q | q
    · have := (hW v v8).mpr ⟨m, u, q, hu, hvu, huv⟩
      rw [vW] at this
      cases this
    · have e : m = n := by omega
      subst e
      rw [hs] at hu
      cases hu
      exact ⟨v8, hvu, huv⟩
  · rintro ⟨v8, hvs, hsv⟩
    have := hvs.flip (fun z => Rch E s z → z ∈ L) (fun _ => d10) (fun x y hx hxy hsy => by
      have hyx : E y x := hxy
      have hxL := hx (hsy.st hyx)
      rcases d5 x hxL y (hE y x hyx).1 hyx with q | q | q
      · exfalso
        obtain ⟨j, u, hj, hu, hyu, huy⟩ := (hW y (hE y x hyx).1).mp q
        have hxs : Rch E x s := (d2 x hxL).2.2.flip
        have hys : Rch E y s := ((Rch.rf y).st hyx).tr hxs
        have := (hW s hs8).mpr ⟨j, u, hj, hu, hsy.tr hyu, huy.tr hys⟩
        rw [hsw] at this
        cases this
      · exact q
      · exact absurd q List.not_mem_nil)
    exact this hsv
theorem X0d_danger (G : Nat → mL → List mv → mS → Prop) (Q : Option Int32 → mS → Prop) (vs : List Int32) (σ : mS) (hG : mCl X0g_danger G Q) (h : X0t_danger vs σ Q) : (vs.length + 1 ≤ 6 ∨ (true = false ∧ vs.length ≤ 6)) ∧ G 0 (mL0 6 true vs) [] σ := by
  obtain ⟨A, ⟨hA, rfl⟩, h⟩ := h
  have hq : ∀ r τ, r = zmask (dB A) → RepX A τ → Q (some r) τ := fun r τ h1 h2 => h r τ ⟨h1, h2⟩
  have h8 : ∀ x, x < 12 → ∀ s, bt (msk A.1 x) s = true → s < 8 := fun x hx => hA.m8 (by omega)
  have hE : ∀ u w, anyStp A u w → u < 8 ∧ w < 8 := fun u w h => any_lt hA.1 h8 h
  refine ⟨Or.inl (Nat.le_of_ble_eq_true rfl), X0v_danger_0 hG σ ⟨A, ⟨hA, rfl⟩, fun s2 h2 => ?_⟩⟩
  obtain ⟨hk2, hS2⟩ := h2
  have hbig : ∀ υ : mS, (∀ k, k ≤ 26 → υ k = s2 k) → SMx A υ := fun υ hk a b ha hb t => by
    rw [hk 26 (by decide)]
    exact hS2 a b ha hb t
  have hrep : ∀ υ : mS, (∀ k, k ≤ 26 → υ k = s2 k) → RepX A υ := fun υ hk => hA.scr (fun k hk26 => by rw [hk k (by omega)]; exact hk2 k (by omega))
  -- the second pass
  have key82 : ∀ (F : List Nat) (D : Nat → Bool), JJ (anyStp A) D F → (∀ w, w < 8 → w ∈ F) → ∀ n, n ≤ 8 → ∀ (υ : mS) (Wd : Nat → Bool), (∀ k, k ≤ 26 → υ k = s2 k) → (∀ (j u : Nat), F[j]? = some u → υ 30 j = nI u) → υ 27 0 = zmask Wd →
      (∀ v, v < 8 → (Wd v = true ↔ ∃ (j u : Nat), n ≤ j ∧ F[j]? = some u ∧ Rch (anyStp A) v u ∧ Rch (anyStp A) u v)) → G 82 [some (.inr 99), some (.inl (zmask (fun v => Wd v && dB A v))), some (.inl (dx n)), none, none, none] [] υ := by
    intro F D hJ hall n
    have hFl : F.length = 8 := by
      have l1 := List.Nodup.length_le_of_subset hJ.1 (show F ⊆ List.range 8 from fun v hv => List.mem_range.mpr (hJ.2.1 v hv).1)
      have l2 := List.Nodup.length_le_of_subset (List.nodup_range (n := 8)) (show List.range 8 ⊆ F from fun v hv => hall v (List.mem_range.mp hv))
      rw [List.length_range] at l1 l2
      omega
    induction n with
    | zero =>
      intro _ υ Wd hk h30 h27 hW
      refine X0v_danger_82 hG _ _ υ ⟨fun _ => hq _ υ ?_ (hrep υ hk), fun c => absurd (show dx 0 < 0 by decide) c⟩
      refine b_ext fun v _ => ?_
      rw [zmask_bt, zmask_bt]
      rcases Nat.lt_or_ge v 8 with hv | hv
      · obtain ⟨j, hj⟩ := List.getElem?_of_mem (hall v hv)
        have : Wd v = true := (hW v hv).mpr ⟨j, v, Nat.zero_le j, hj, Rch.rf v, Rch.rf v⟩
        rw [this]
        rfl
      · rw [decide_eq_false (by omega)]
        rfl
    | succ n ih =>
      intro hn υ Wd hk h30 h27 hW
      obtain ⟨s, hs⟩ : ∃ s, F[n]? = some s := ⟨_, List.getElem?_eq_getElem (show n < F.length by omega)⟩
      have hs8 : s < 8 := (hJ.2.1 s (List.mem_of_getElem? hs)).1
      refine X0v_danger_82 hG _ _ υ ⟨fun c => absurd c (nI_pos (by omega)), fun _ => ?_⟩
      show vp_in (nI n) 8 ∧ ∀ x1 : Int32, x1 = υ 30 (nI n).toNatClampNeg → _
      refine ⟨zi_in (by omega) (by decide), fun x1 e1 => ?_⟩
      rw [nI_clamp (by omega), h30 n s hs] at e1
      subst e1
      rw [dx_m1]
      have hbit : bt (υ 27 0) s = Wd s := by rw [h27, zmask_bt, decide_eq_true hs8]; rfl
      refine ⟨fun c => ?_, fun c => ?_⟩
      · have hws : Wd s = true := by
          cases hb : Wd s
          · rw [hb] at hbit
            exact absurd ((zb_is0 _ (by omega)).mpr hbit) c
          · rfl
        refine ih (by omega) υ Wd hk h30 h27 (fun v hv => ?_)
        rw [hW v hv]
        constructor
        · rintro ⟨j, u, hj, z⟩
          exact ⟨j, u, by omega, z⟩
        · rintro ⟨j, u, hj, hu, z1, z2⟩
          rcases Nat.lt_or_ge n j with q | q
          · exact ⟨j, u, q, hu, z1, z2⟩
          · have e : j = n := by omega
            subst e
            rw [hs] at hu
            cases hu
            obtain ⟨j', u', hj', hu', y1, y2⟩ := (hW s hs8).mp hws
            exact ⟨j', u', hj', hu', z1.tr y1, y2.tr z2⟩
      · have hws : Wd s = false := by
          have := (zb_is0 (υ 27 0) (by omega)).mp c
          rw [hbit] at this
          exact this
        have hk1 : ∀ k, k ≤ 26 → mU υ 29 0 0 k = s2 k := fun k hk26 => by rw [mU_ne (by omega)]; exact hk k hk26
        have hew := ew_1 hA.1 h8 (hbig (mU υ 29 0 0) hk1)
        refine ⟨(Wd, []), ⟨s, 1, hs8, rfl, ?_, hws, ⟨List.nodup_nil, fun u hu => absurd hu List.not_mem_nil, fun i j k u w z _ _ z1 => by simp at z1⟩, mU_s, fun i u hi => by simp at hi⟩, fun x3 s4 h4 => ?_⟩
        · rw [mU_ne (by decide)]
          exact h27
        · obtain ⟨L, l1, l2, l3, l4, l5, l6⟩ := h4 s 1 hs8 rfl
          dsimp only at l1 l3
          rw [hew] at l1
          have hL := scc_walk hJ hE hall hs hW hws l1
          have hk4 : ∀ k, k ≤ 26 → s4 k = s2 k := fun k hk26 => by rw [l6 k (by omega) (by omega) (by omega) (by omega) (by omega)]; exact hk1 k hk26
          have hS4 := hbig s4 hk4
          refine ⟨⟨x3, rfl, fun a b ha hb t ht => (stp_lt hA.1 h8 ((hS4 a b ha hb t).mp ht)).1⟩, fun x5 h5 => ?_⟩
          have h5 := h5 x3 rfl
          have hx3 : ∀ v, bt x3 v = true ↔ v ∈ L := fun v => by
            rw [l2, zmask_bt]
            constructor
            · intro z
              simp at z
              exact z.2
            · intro z
              simp [z, ((hL v).mp z).1]
          have hdng : ∀ v, v ∈ L → (Dng A v ↔ ¬ x5 = 0) := by
            intro v hv
            obtain ⟨v8, v1, v2⟩ := (hL v).mp hv
            rw [h5]
            constructor
            · rintro ⟨t1, t2, a1, b1, a2, b2, hne, ⟨p1, p2, p3⟩, q1, q2, q3⟩
              have m1 : ∀ t a b, Stp2 A t a b → Rch (anyStp A) v a → Rch (anyStp A) b v → TT s4 x3 t := by
                intro t a b hst hva hbv
                obtain ⟨-, ha8, hb8⟩ := stp_lt hA.1 h8 hst
                have hab : anyStp A a b := ⟨t, hst⟩
                refine ⟨a, b, ha8, hb8, (hx3 a).mpr ((hL a).mpr ⟨ha8, ?_, ?_⟩), (hx3 b).mpr ((hL b).mpr ⟨hb8, ?_, ?_⟩), (hS4 a b ha8 hb8 t).mpr hst⟩
                · exact (((Rch.rf a).st hab).tr hbv).tr v1
                · exact v2.tr hva
                · exact hbv.tr v1
                · exact (v2.tr hva).st hab
              exact ⟨t1, t2, hne, m1 t1 a1 b1 p1 p2 p3, m1 t2 a2 b2 q1 q2 q3⟩
            · rintro ⟨t1, t2, hne, ⟨a1, b1, ha1, hb1, p1, p2, p3⟩, ⟨a2, b2, ha2, hb2, q1, q2, q3⟩⟩
              obtain ⟨-, y1, y2⟩ := (hL a1).mp ((hx3 a1).mp p1)
              obtain ⟨-, y3, y4⟩ := (hL b1).mp ((hx3 b1).mp p2)
              obtain ⟨-, y5, y6⟩ := (hL a2).mp ((hx3 a2).mp q1)
              obtain ⟨-, y7, y8⟩ := (hL b2).mp ((hx3 b2).mp q2)
              exact ⟨t1, t2, a1, b1, a2, b2, hne, ⟨(hS4 a1 b1 ha1 hb1 t1).mp p3, v1.tr y2, y3.tr v2⟩, (hS4 a2 b2 ha2 hb2 t2).mp q3, v1.tr y6, y7.tr v2⟩
          have hnext := ih (by omega) s4 (fun v => Wd v || decide (v ∈ L)) hk4 (fun j u hj => by rw [l6 30 (by decide) (by decide) (by decide) (by decide) (by decide), mU_ne (by decide)]; exact h30 j u hj) l3 (fun v hv => by
            rw [Bool.or_eq_true, hW v hv, decide_eq_true_eq, hL v]
            constructor
            · rintro (⟨j, u, hj, z⟩ | ⟨-, z1, z2⟩)
              · exact ⟨j, u, by omega, z⟩
              · exact ⟨n, s, Nat.le_refl n, hs, z1, z2⟩
            · rintro ⟨j, u, hj, hu, z1, z2⟩
              rcases Nat.lt_or_ge n j with q | q
              · exact Or.inl ⟨j, u, q, hu, z1, z2⟩
              · have e : j = n := by omega
                subst e
                rw [hs] at hu
                cases hu
                exact Or.inr ⟨hv, z1, z2⟩)
          have hfin : ∀ m : Int32, (∀ v, bt m v = (decide (v < 8) && ((Wd v || decide (v ∈ L)) && dB A v))) → G 82 [some (.inr 99), some (.inl m), some (.inl (dx n)), none, none, none] [] s4 := fun m hm => by
            rw [zmask_eq (p := fun v => (Wd v || decide (v ∈ L)) && dB A v) hm]
            exact hnext
          refine ⟨fun c5 => hfin _ (fun v => ?_), fun c5 => hfin _ (fun v => ?_)⟩
          · rw [zmask_bt]
            by_cases hv : v ∈ L
            · have hd : dB A v = false := by
                cases hb : dB A v
                · rfl
                · exact absurd c5 ((hdng v hv).mp ((dB_iff A v).mp hb))
              rw [hd]
              simp
            · rw [decide_eq_false hv]
              simp
          · rw [b_or, zmask_bt, l2, zmask_bt]
            by_cases hv : v ∈ L
            · have hd : dB A v = true := (dB_iff A v).mpr ((hdng v hv).mpr c5)
              rw [hd]
              simp [hv, ((hL v).mp hv).1]
            · rw [decide_eq_false hv]
              simp
  -- the order of leaving is kept
  have key48 : ∀ (F : List Nat) (D : Nat → Bool), JJ (anyStp A) D F → (∀ w, w < 8 → w ∈ F) → ∀ υ0 : mS, (∀ k, k ≤ 26 → υ0 k = s2 k) → (∀ (j u : Nat), F[j]? = some u → υ0 28 j = nI u) → G 48 [some (.inr 99), some (.inl (nI 0)), none, none, none, none] [] υ0 := by
    intro F D hJ hall υ0 hk h28
    have hFl : F.length ≤ 8 := by
      have l1 := List.Nodup.length_le_of_subset hJ.1 (show F ⊆ List.range 8 from fun v hv => List.mem_range.mpr (hJ.2.1 v hv).1)
      rw [List.length_range] at l1
      exact l1
    have key := zup (α := mS) (N := 8) (H := fun i υ => G 48 [some (.inr 99), some (.inl (nI i)), none, none, none, none] [] υ) (I := fun i υ => (∀ k, k ≠ 30 → υ k = υ0 k) ∧ ∀ j, j < i → υ 30 j = υ0 28 j)
      (fun υ ⟨g1, g2⟩ => by
        refine X0v_danger_48 hG _ υ ⟨fun _ => ?_, fun c => zle (by decide) c⟩
        have := key82 F D hJ hall 8 (Nat.le_refl 8) (mU υ 27 0 0) (fun _ => false) (fun k hk26 => by rw [mU_ne (by omega), g1 k (by omega)]; exact hk k hk26) (fun j u hj => by
          have hj8 : j < F.length := (List.getElem?_eq_some_iff.mp hj).1
          rw [mU_ne (by decide), g2 j (by omega)]
          exact h28 j u hj) (by rw [mU_s]; rfl) (fun v hv => ⟨fun z => (by cases z), fun ⟨j, u, hj, hu, _⟩ => by
            have := (List.getElem?_eq_some_iff.mp hu).1
            omega⟩)
        have ez : zmask (fun v => false && dB A v) = 0 := (zmask_eq (m := 0) (fun v => by rw [b_0]; simp)).symm
        rw [ez] at this
        exact this)
      (fun i υ hi ⟨g1, g2⟩ hn => by
        refine X0v_danger_48 hG _ υ ⟨fun c => zge hi (by decide) c, fun _ => ⟨zi_in hi (by decide), fun x1 e1 => ⟨zi_in hi (by decide), ?_⟩⟩⟩
        rw [nI_clamp (by omega)] at e1 ⊢
        have := hn (mU υ 30 i x1) ⟨fun k hk => by rw [mU_ne hk]; exact g1 k hk, fun j hj => by
          by_cases q : j = i
          · rw [q, mU_s, e1, g1 28 (by decide)]
          · rw [mU_o (Or.inr q)]
            exact g2 j (by omega)⟩
        rw [← nI_1] at this
        exact this)
    exact key 0 υ0 (by omega) ⟨fun _ _ => rfl, fun j hj => absurd hj (Nat.not_lt_zero j)⟩
  -- the first pass
  have key16 := zup (α := mS) (N := 8) (H := fun s υ => G 16 [some (.inr 99), some (.inl (nI s)), none, none, none, none] [] υ)
    (I := fun s υ => ∃ (D : Nat → Bool) (F : List Nat), JJ (anyStp A) D F ∧ (∀ v, D v = true ↔ v ∈ F) ∧ υ 27 0 = zmask D ∧ υ 29 0 = nI F.length ∧ (∀ (j u : Nat), F[j]? = some u → υ 28 j = nI u) ∧ (∀ k, k ≤ 26 → υ k = s2 k) ∧ ∀ v, v < s → D v = true)
    (fun υ ⟨D, F, g1, g2, g3, g4, g5, g6, g7⟩ => X0v_danger_16 hG _ υ ⟨fun _ => key48 F D g1 (fun w hw => (g2 w).mp (g7 w hw)) υ g6 g5, fun c => zle (by decide) c⟩)
    (fun s υ hs ⟨D, F, g1, g2, g3, g4, g5, g6, g7⟩ hn => by
      have hbit : bt (υ 27 0) s = D s := by rw [g3, zmask_bt, decide_eq_true hs]; rfl
      refine X0v_danger_16 hG _ υ ⟨fun c => zge hs (by decide) c, fun _ => ⟨fun c => ?_, fun c => ?_⟩⟩
      · have hws : D s = true := by
          cases hb : D s
          · rw [hb] at hbit
            exact absurd ((zb_is0 _ (by omega)).mpr hbit) c
          · rfl
        have := hn υ ⟨D, F, g1, g2, g3, g4, g5, g6, fun v hv => by
          rcases Nat.lt_or_ge v s with q | q
          · exact g7 v q
          · have e : v = s := by omega
            rw [e]; exact hws⟩
        rw [← nI_1] at this
        exact this
      · have hws : D s = false := by
          have := (zb_is0 (υ 27 0) (by omega)).mp c
          rw [hbit] at this
          exact this
        have hew := ew_0 hA.1 h8 (hbig υ g6)
        refine ⟨(D, F), ⟨s, 0, hs, rfl, g3, hws, by rw [hew]; exact g1, g4, g5⟩, fun x2 s3 h3 => ?_⟩
        obtain ⟨L, l1, l2, l3, l4, l5, l6⟩ := h3 s 0 hs rfl
        dsimp only at l1 l3 l4 l5
        rw [hew] at l1
        have hD' : ∀ v, (D v || decide (v ∈ L)) = true ↔ (D v = true ∨ v ∈ L) := fun v => by rw [Bool.or_eq_true, decide_eq_true_eq]
        have hJ' := l1.done (D' := fun v => D v || decide (v ∈ L)) hD'
        have hsL : s ∈ L := l1.2.2.2.2.2.2.2.2.2
        have := hn s3 ⟨fun v => D v || decide (v ∈ L), F ++ L, hJ', fun v => by rw [hD' v, g2 v, List.mem_append], l3, by rw [l4, List.length_append], l5, fun k hk26 => by rw [l6 k (by omega) (by omega) (by omega) (by omega) (by omega)]; exact g6 k hk26, fun v hv => by
          rw [hD' v]
          rcases Nat.lt_or_ge v s with q | q
          · exact Or.inl (g7 v q)
          · have e : v = s := by omega
            rw [e]; exact Or.inr hsL⟩
        rw [← nI_1] at this
        exact this)
  refine key16 0 (mU (mU s2 27 0 0) 29 0 0) (by omega) ⟨fun _ => false, [], ⟨List.nodup_nil, fun u hu => absurd hu List.not_mem_nil, fun i j k u w z _ _ z1 => by simp at z1⟩, fun v => ⟨fun z => (by cases z), fun z => absurd z List.not_mem_nil⟩, by rw [mU_ne (by decide), mU_s]; rfl, mU_s, fun j u hj => by simp at hj, fun k hk26 => by rw [mU_ne (by omega), mU_ne (by omega)], fun v hv => absurd hv (Nat.not_lt_zero v)⟩
end
section
/-! printed by gen/ok.py: the methods' contracts over the machine -/
set_option maxRecDepth 100000
theorem X0k_badPlace : mMet vwCl 0 fdX0 0 yX0_badPlace cX0_badPlace 2 (some .boolean) true X0t_badPlace := mMet_of kdX0 rfl rfl X0b_badPlace_ok (show ∀ q ∈ ([] : List (Nat × Nat × Bool × mT)), mCallOK vwCl 0 RX0 fdX0 0 q from fun _ h => absurd h List.not_mem_nil) X0d_badPlace
theorem X0k_alloc : mMet vwCl 0 fdX0 6 yX0_alloc cX0_alloc 3 (some .int) true X0t_alloc := mMet_of kdX0 rfl rfl X0b_alloc_ok (show ∀ q ∈ ([(134, 1, false, X0t_badVariable), (138, 1, false, X0t_badSite), (91, 2, true, X0t_addSites), (141, 0, true, X0t_solve), (144, 1, false, X0t_bits)] : List (Nat × Nat × Bool × mT)), mCallOK vwCl 0 RX0 fdX0 6 q from List.forall_mem_cons.mpr ⟨⟨yX0_badVariable, cX0_badVariable, 1, some .boolean, 0, X0k_badVariable, by decide, by decide, ⟨rfl, by decide +kernel, by decide +kernel, by decide +kernel⟩, q150, q152, q34, q151⟩, List.forall_mem_cons.mpr ⟨⟨yX0_badSite, cX0_badSite, 1, some .boolean, 0, X0k_badSite, by decide, by decide, ⟨rfl, by decide +kernel, by decide +kernel, by decide +kernel⟩, q153, q155, q34, q154⟩, List.forall_mem_cons.mpr ⟨⟨yX0_addSites, cX0_addSites, 5, none, 1, X0k_addSites, by decide, by decide, ⟨rfl, by decide +kernel, by decide +kernel, by decide +kernel⟩, q156, q159, q34, ⟨q158, qs0⟩⟩, List.forall_mem_cons.mpr ⟨⟨yX0_solve, cX0_solve, 3, none, 5, X0k_solve, by decide, by decide, ⟨rfl, by decide +kernel, by decide +kernel, by decide +kernel⟩, q164, q167, q34, ⟨q166, qs2⟩⟩, List.forall_mem_cons.mpr ⟨⟨yX0_bits, cX0_bits, 3, some .int, 0, X0k_bits, by decide, by decide, ⟨rfl, by decide +kernel, by decide +kernel, by decide +kernel⟩, q203, q205, q34, q204⟩, fun _ h => absurd h List.not_mem_nil⟩⟩⟩⟩⟩) X0d_alloc
theorem X0k_copy : mMet vwCl 0 fdX0 6 yX0_copy cX0_copy 3 (some .int) true X0t_copy := mMet_of kdX0 rfl rfl X0b_copy_ok (show ∀ q ∈ ([(134, 1, false, X0t_badVariable), (121, 2, true, X0t_addEdge), (141, 0, true, X0t_solve), (144, 1, false, X0t_bits)] : List (Nat × Nat × Bool × mT)), mCallOK vwCl 0 RX0 fdX0 6 q from List.forall_mem_cons.mpr ⟨⟨yX0_badVariable, cX0_badVariable, 1, some .boolean, 0, X0k_badVariable, by decide, by decide, ⟨rfl, by decide +kernel, by decide +kernel, by decide +kernel⟩, q150, q152, q34, q151⟩, List.forall_mem_cons.mpr ⟨⟨yX0_addEdge, cX0_addEdge, 5, none, 2, X0k_addEdge, by decide, by decide, ⟨rfl, by decide +kernel, by decide +kernel, by decide +kernel⟩, q179, q182, q34, ⟨q181, qs5⟩⟩, List.forall_mem_cons.mpr ⟨⟨yX0_solve, cX0_solve, 3, none, 5, X0k_solve, by decide, by decide, ⟨rfl, by decide +kernel, by decide +kernel, by decide +kernel⟩, q164, q167, q34, ⟨q166, qs2⟩⟩, List.forall_mem_cons.mpr ⟨⟨yX0_bits, cX0_bits, 3, some .int, 0, X0k_bits, by decide, by decide, ⟨rfl, by decide +kernel, by decide +kernel, by decide +kernel⟩, q203, q205, q34, q204⟩, fun _ h => absurd h List.not_mem_nil⟩⟩⟩⟩) X0d_copy
theorem X0k_load : mMet vwCl 0 fdX0 6 yX0_load cX0_load 4 (some .int) true X0t_load := mMet_of kdX0 rfl rfl X0b_load_ok (show ∀ q ∈ ([(134, 1, false, X0t_badVariable), (147, 1, false, X0t_badField), (104, 3, true, X0t_edgesFromFields), (141, 0, true, X0t_solve), (144, 1, false, X0t_bits)] : List (Nat × Nat × Bool × mT)), mCallOK vwCl 0 RX0 fdX0 6 q from List.forall_mem_cons.mpr ⟨⟨yX0_badVariable, cX0_badVariable, 1, some .boolean, 0, X0k_badVariable, by decide, by decide, ⟨rfl, by decide +kernel, by decide +kernel, by decide +kernel⟩, q150, q152, q34, q151⟩, List.forall_mem_cons.mpr ⟨⟨yX0_badField, cX0_badField, 1, some .boolean, 0, X0k_badField, by decide, by decide, ⟨rfl, by decide +kernel, by decide +kernel, by decide +kernel⟩, q214, q216, q34, q215⟩, List.forall_mem_cons.mpr ⟨⟨yX0_edgesFromFields, cX0_edgesFromFields, 5, none, 3, X0k_edgesFromFields, by decide, by decide, ⟨rfl, by decide +kernel, by decide +kernel, by decide +kernel⟩, q172, q175, q34, ⟨q174, qs4⟩⟩, List.forall_mem_cons.mpr ⟨⟨yX0_solve, cX0_solve, 3, none, 5, X0k_solve, by decide, by decide, ⟨rfl, by decide +kernel, by decide +kernel, by decide +kernel⟩, q164, q167, q34, ⟨q166, qs2⟩⟩, List.forall_mem_cons.mpr ⟨⟨yX0_bits, cX0_bits, 3, some .int, 0, X0k_bits, by decide, by decide, ⟨rfl, by decide +kernel, by decide +kernel, by decide +kernel⟩, q203, q205, q34, q204⟩, fun _ h => absurd h List.not_mem_nil⟩⟩⟩⟩⟩) X0d_load
theorem X0k_store : mMet vwCl 0 fdX0 6 yX0_store cX0_store 4 (some .int) true X0t_store := mMet_of kdX0 rfl rfl X0b_store_ok (show ∀ q ∈ ([(134, 1, false, X0t_badVariable), (147, 1, false, X0t_badField), (111, 3, true, X0t_edgesToFields), (141, 0, true, X0t_solve)] : List (Nat × Nat × Bool × mT)), mCallOK vwCl 0 RX0 fdX0 6 q from List.forall_mem_cons.mpr ⟨⟨yX0_badVariable, cX0_badVariable, 1, some .boolean, 0, X0k_badVariable, by decide, by decide, ⟨rfl, by decide +kernel, by decide +kernel, by decide +kernel⟩, q150, q152, q34, q151⟩, List.forall_mem_cons.mpr ⟨⟨yX0_badField, cX0_badField, 1, some .boolean, 0, X0k_badField, by decide, by decide, ⟨rfl, by decide +kernel, by decide +kernel, by decide +kernel⟩, q214, q216, q34, q215⟩, List.forall_mem_cons.mpr ⟨⟨yX0_edgesToFields, cX0_edgesToFields, 5, none, 3, X0k_edgesToFields, by decide, by decide, ⟨rfl, by decide +kernel, by decide +kernel, by decide +kernel⟩, q183, q186, q34, ⟨q185, qs6⟩⟩, List.forall_mem_cons.mpr ⟨⟨yX0_solve, cX0_solve, 3, none, 5, X0k_solve, by decide, by decide, ⟨rfl, by decide +kernel, by decide +kernel, by decide +kernel⟩, q164, q167, q34, ⟨q166, qs2⟩⟩, fun _ h => absurd h List.not_mem_nil⟩⟩⟩⟩) X0d_store
theorem X0k_once : mMet vwCl 0 fdX0 1 yX0_once cX0_once 4 (some .int) true X0t_once := mMet_of kdX0 rfl rfl X0b_once_ok (show ∀ q ∈ ([(138, 1, false, X0t_badSite)] : List (Nat × Nat × Bool × mT)), mCallOK vwCl 0 RX0 fdX0 1 q from List.forall_mem_cons.mpr ⟨⟨yX0_badSite, cX0_badSite, 1, some .boolean, 0, X0k_badSite, by decide, by decide, ⟨rfl, by decide +kernel, by decide +kernel, by decide +kernel⟩, q153, q155, q34, q154⟩, fun _ h => absurd h List.not_mem_nil⟩) X0d_once
theorem X0k_region : mMet vwCl 0 fdX0 1 yX0_region cX0_region 5 (some .int) true X0t_region := mMet_of kdX0 rfl rfl X0b_region_ok (show ∀ q ∈ ([(134, 1, false, X0t_badVariable)] : List (Nat × Nat × Bool × mT)), mCallOK vwCl 0 RX0 fdX0 1 q from List.forall_mem_cons.mpr ⟨⟨yX0_badVariable, cX0_badVariable, 1, some .boolean, 0, X0k_badVariable, by decide, by decide, ⟨rfl, by decide +kernel, by decide +kernel, by decide +kernel⟩, q150, q152, q34, q151⟩, fun _ h => absurd h List.not_mem_nil⟩) X0d_region
theorem X0k_access : mMet vwCl 0 fdX0 1 yX0_access cX0_access 6 (some .int) true X0t_access := mMet_of kdX0 rfl rfl X0b_access_ok (show ∀ q ∈ ([(156, 1, true, X0t_badPlace), (134, 1, false, X0t_badVariable), (147, 1, false, X0t_badField)] : List (Nat × Nat × Bool × mT)), mCallOK vwCl 0 RX0 fdX0 1 q from List.forall_mem_cons.mpr ⟨⟨yX0_badPlace, cX0_badPlace, 2, some .boolean, 0, X0k_badPlace, by decide, by decide, ⟨rfl, by decide +kernel, by decide +kernel, by decide +kernel⟩, q233, q236, q34, ⟨q235, qs11⟩⟩, List.forall_mem_cons.mpr ⟨⟨yX0_badVariable, cX0_badVariable, 1, some .boolean, 0, X0k_badVariable, by decide, by decide, ⟨rfl, by decide +kernel, by decide +kernel, by decide +kernel⟩, q150, q152, q34, q151⟩, List.forall_mem_cons.mpr ⟨⟨yX0_badField, cX0_badField, 1, some .boolean, 0, X0k_badField, by decide, by decide, ⟨rfl, by decide +kernel, by decide +kernel, by decide +kernel⟩, q214, q216, q34, q215⟩, fun _ h => absurd h List.not_mem_nil⟩⟩⟩) X0d_access
theorem X0k_pointsTo : mMet vwCl 0 fdX0 1 yX0_pointsTo cX0_pointsTo 2 (some .int) true X0t_pointsTo := mMet_of kdX0 rfl rfl X0b_pointsTo_ok (show ∀ q ∈ ([(134, 1, false, X0t_badVariable)] : List (Nat × Nat × Bool × mT)), mCallOK vwCl 0 RX0 fdX0 1 q from List.forall_mem_cons.mpr ⟨⟨yX0_badVariable, cX0_badVariable, 1, some .boolean, 0, X0k_badVariable, by decide, by decide, ⟨rfl, by decide +kernel, by decide +kernel, by decide +kernel⟩, q150, q152, q34, q151⟩, fun _ h => absurd h List.not_mem_nil⟩) X0d_pointsTo
theorem X0k_holds : mMet vwCl 0 fdX0 1 yX0_holds cX0_holds 3 (some .int) true X0t_holds := mMet_of kdX0 rfl rfl X0b_holds_ok (show ∀ q ∈ ([(138, 1, false, X0t_badSite), (147, 1, false, X0t_badField)] : List (Nat × Nat × Bool × mT)), mCallOK vwCl 0 RX0 fdX0 1 q from List.forall_mem_cons.mpr ⟨⟨yX0_badSite, cX0_badSite, 1, some .boolean, 0, X0k_badSite, by decide, by decide, ⟨rfl, by decide +kernel, by decide +kernel, by decide +kernel⟩, q153, q155, q34, q154⟩, List.forall_mem_cons.mpr ⟨⟨yX0_badField, cX0_badField, 1, some .boolean, 0, X0k_badField, by decide, by decide, ⟨rfl, by decide +kernel, by decide +kernel, by decide +kernel⟩, q214, q216, q34, q215⟩, fun _ h => absurd h List.not_mem_nil⟩⟩) X0d_holds
theorem X0k_threadOf : mMet vwCl 0 fdX0 0 yX0_threadOf cX0_threadOf 2 (some .int) true X0t_threadOf := mMet_of kdX0 rfl rfl X0b_threadOf_ok (show ∀ q ∈ ([] : List (Nat × Nat × Bool × mT)), mCallOK vwCl 0 RX0 fdX0 0 q from fun _ h => absurd h List.not_mem_nil) X0d_threadOf
theorem X0k_heldAt : mMet vwCl 0 fdX0 0 yX0_heldAt cX0_heldAt 6 (some .int) true X0t_heldAt := mMet_of kdX0 rfl rfl X0b_heldAt_ok (show ∀ q ∈ ([] : List (Nat × Nat × Bool × mT)), mCallOK vwCl 0 RX0 fdX0 0 q from fun _ h => absurd h List.not_mem_nil) X0d_heldAt
theorem X0k_conflict : mMet vwCl 0 fdX0 1 yX0_conflict cX0_conflict 9 (some .boolean) true X0t_conflict := mMet_of kdX0 rfl rfl X0b_conflict_ok (show ∀ q ∈ ([(162, 1, true, X0t_threadOf), (165, 1, true, X0t_heldAt)] : List (Nat × Nat × Bool × mT)), mCallOK vwCl 0 RX0 fdX0 1 q from List.forall_mem_cons.mpr ⟨⟨yX0_threadOf, cX0_threadOf, 2, some .int, 0, X0k_threadOf, by decide, by decide, ⟨rfl, by decide +kernel, by decide +kernel, by decide +kernel⟩, q253, q256, q34, ⟨q255, qs13⟩⟩, List.forall_mem_cons.mpr ⟨⟨yX0_heldAt, cX0_heldAt, 6, some .int, 0, X0k_heldAt, by decide, by decide, ⟨rfl, by decide +kernel, by decide +kernel, by decide +kernel⟩, q257, q260, q34, ⟨q259, qs14⟩⟩, fun _ h => absurd h List.not_mem_nil⟩⟩) X0d_conflict
theorem X0k_race : mMet vwCl 0 fdX0 2 yX0_race cX0_race 3 (some .boolean) true X0t_race := mMet_of kdX0 rfl rfl X0b_race_ok (show ∀ q ∈ ([(168, 2, true, X0t_conflict)] : List (Nat × Nat × Bool × mT)), mCallOK vwCl 0 RX0 fdX0 2 q from List.forall_mem_cons.mpr ⟨⟨yX0_conflict, cX0_conflict, 9, some .boolean, 1, X0k_conflict, by decide, by decide, ⟨rfl, by decide +kernel, by decide +kernel, by decide +kernel⟩, q249, q252, q34, ⟨q251, qs12⟩⟩, fun _ h => absurd h List.not_mem_nil⟩) X0d_race
theorem X0k_races : mMet vwCl 0 fdX0 2 yX0_races cX0_races 5 (some .int) true X0t_races := mMet_of kdX0 rfl rfl X0b_races_ok (show ∀ q ∈ ([(168, 2, true, X0t_conflict)] : List (Nat × Nat × Bool × mT)), mCallOK vwCl 0 RX0 fdX0 2 q from List.forall_mem_cons.mpr ⟨⟨yX0_conflict, cX0_conflict, 9, some .boolean, 1, X0k_conflict, by decide, by decide, ⟨rfl, by decide +kernel, by decide +kernel, by decide +kernel⟩, q249, q252, q34, ⟨q251, qs12⟩⟩, fun _ h => absurd h List.not_mem_nil⟩) X0d_races
theorem X0k_held : mMet vwCl 0 fdX0 1 yX0_held cX0_held 2 (some .int) true X0t_held := mMet_of kdX0 rfl rfl X0b_held_ok (show ∀ q ∈ ([(156, 1, true, X0t_badPlace), (165, 1, true, X0t_heldAt)] : List (Nat × Nat × Bool × mT)), mCallOK vwCl 0 RX0 fdX0 1 q from List.forall_mem_cons.mpr ⟨⟨yX0_badPlace, cX0_badPlace, 2, some .boolean, 0, X0k_badPlace, by decide, by decide, ⟨rfl, by decide +kernel, by decide +kernel, by decide +kernel⟩, q233, q236, q34, ⟨q235, qs11⟩⟩, List.forall_mem_cons.mpr ⟨⟨yX0_heldAt, cX0_heldAt, 6, some .int, 0, X0k_heldAt, by decide, by decide, ⟨rfl, by decide +kernel, by decide +kernel, by decide +kernel⟩, q257, q260, q34, ⟨q259, qs14⟩⟩, fun _ h => absurd h List.not_mem_nil⟩⟩) X0d_held
theorem X0k_addSteps : mMet vwCl 0 fdX0 0 yX0_addSteps cX0_addSteps 7 (none) true X0t_addSteps := mMet_of kdX0 rfl rfl X0b_addSteps_ok (show ∀ q ∈ ([] : List (Nat × Nat × Bool × mT)), mCallOK vwCl 0 RX0 fdX0 0 q from fun _ h => absurd h List.not_mem_nil) X0d_addSteps
theorem X0k_makeSteps : mMet vwCl 0 fdX0 1 yX0_makeSteps cX0_makeSteps 4 (none) true X0t_makeSteps := mMet_of kdX0 rfl rfl X0b_makeSteps_ok (show ∀ q ∈ ([(172, 3, true, X0t_addSteps)] : List (Nat × Nat × Bool × mT)), mCallOK vwCl 0 RX0 fdX0 1 q from List.forall_mem_cons.mpr ⟨⟨yX0_addSteps, cX0_addSteps, 7, none, 0, X0k_addSteps, by decide, by decide, ⟨rfl, by decide +kernel, by decide +kernel, by decide +kernel⟩, q277, q280, q34, ⟨q279, qs16⟩⟩, fun _ h => absurd h List.not_mem_nil⟩) X0d_makeSteps
theorem X0k_stepFrom : mMet vwCl 0 fdX0 0 yX0_stepFrom cX0_stepFrom 4 (some .boolean) true X0t_stepFrom := mMet_of kdX0 rfl rfl X0b_stepFrom_ok (show ∀ q ∈ ([] : List (Nat × Nat × Bool × mT)), mCallOK vwCl 0 RX0 fdX0 0 q from fun _ h => absurd h List.not_mem_nil) X0d_stepFrom
theorem X0k_walk : mMet vwCl 0 fdX0 1 yX0_walk cX0_walk 9 (some .int) true X0t_walk := mMet_of kdX0 rfl rfl X0b_walk_ok (show ∀ q ∈ ([(181, 3, true, X0t_stepFrom)] : List (Nat × Nat × Bool × mT)), mCallOK vwCl 0 RX0 fdX0 1 q from List.forall_mem_cons.mpr ⟨⟨yX0_stepFrom, cX0_stepFrom, 4, some .boolean, 0, X0k_stepFrom, by decide, by decide, ⟨rfl, by decide +kernel, by decide +kernel, by decide +kernel⟩, q285, q288, q34, ⟨q287, qs18⟩⟩, fun _ h => absurd h List.not_mem_nil⟩) X0d_walk
theorem X0k_twoThreads : mMet vwCl 0 fdX0 0 yX0_twoThreads cX0_twoThreads 5 (some .boolean) true X0t_twoThreads := mMet_of kdX0 rfl rfl X0b_twoThreads_ok (show ∀ q ∈ ([] : List (Nat × Nat × Bool × mT)), mCallOK vwCl 0 RX0 fdX0 0 q from fun _ h => absurd h List.not_mem_nil) X0d_twoThreads
theorem X0k_danger : mMet vwCl 0 fdX0 2 yX0_danger cX0_danger 6 (some .int) true X0t_danger := mMet_of kdX0 rfl rfl X0b_danger_ok (show ∀ q ∈ ([(185, 0, true, X0t_makeSteps), (188, 2, true, X0t_walk), (192, 1, true, X0t_twoThreads)] : List (Nat × Nat × Bool × mT)), mCallOK vwCl 0 RX0 fdX0 2 q from List.forall_mem_cons.mpr ⟨⟨yX0_makeSteps, cX0_makeSteps, 4, none, 1, X0k_makeSteps, by decide, by decide, ⟨rfl, by decide +kernel, by decide +kernel, by decide +kernel⟩, q273, q276, q34, ⟨q275, qs15⟩⟩, List.forall_mem_cons.mpr ⟨⟨yX0_walk, cX0_walk, 9, some .int, 1, X0k_walk, by decide, by decide, ⟨rfl, by decide +kernel, by decide +kernel, by decide +kernel⟩, q281, q284, q34, ⟨q283, qs17⟩⟩, List.forall_mem_cons.mpr ⟨⟨yX0_twoThreads, cX0_twoThreads, 5, some .boolean, 0, X0k_twoThreads, by decide, by decide, ⟨rfl, by decide +kernel, by decide +kernel, by decide +kernel⟩, q289, q292, q34, ⟨q291, qs19⟩⟩, fun _ h => absurd h List.not_mem_nil⟩⟩⟩) X0d_danger
end
section
/-! THE MODEL: its state tied to the same value; contracts of RaceFinderModel's methods -/
set_option maxRecDepth 100000
/-- node x's set in the model's state -/
def pv (σ : mS) (x : Nat) : Int32 := if x < 12 then σ 21 x else σ 22 (x - 12)
/-- the constraints as the model's arrays hold them -/
def MC (Γ : Gam) (σ : mS) : Prop := GB Γ ∧ (∀ v, v < 12 → ∀ s, bt (σ 0 v) s = true ↔ Γ.1 v s) ∧ (∀ v, v < 12 → ∀ w, bt (σ 1 v) w = true ↔ Γ.2.1 v w) ∧
  (σ 2 0 = nI Γ.2.2.1.length ∧ Γ.2.2.1.length ≤ 20 ∧ ∀ (i : Nat) (p : Nat × Nat × Nat), Γ.2.2.1[i]? = some p → σ 3 i = nI p.1 ∧ σ 4 i = nI p.2.1 ∧ σ 5 i = nI p.2.2) ∧
  (σ 6 0 = nI Γ.2.2.2.length ∧ Γ.2.2.2.length ≤ 20 ∧ ∀ (i : Nat) (p : Nat × Nat × Nat), Γ.2.2.2[i]? = some p → σ 7 i = nI p.1 ∧ σ 8 i = nI p.2.2 ∧ σ 9 i = nI p.2.1)
/-- the sets are the least solution -/
def SolM (Γ : Gam) (σ : mS) : Prop := ∀ x, x < 28 → Msk Γ x (pv σ x)
def RepM (A : AS) (σ : mS) : Prop := AW A ∧ MC A.1 σ ∧ (∀ s, s < 8 → σ 10 s = if A.2.1 s then 1 else 0) ∧
  (σ 11 0 = nI A.2.2.1.length ∧ ∀ r, r < A.2.2.1.length → σ 12 r = nI (rg A r).1 ∧ σ 13 r = nI (rg A r).2.1 ∧ σ 14 r = enc (rg A r).2.2) ∧
  (σ 15 0 = nI A.2.2.2.length ∧ ∀ i, i < A.2.2.2.length → σ 16 i = nI (ac A i).1 ∧ σ 17 i = nI (ac A i).2.1 ∧ σ 18 i = nI (ac A i).2.2.1 ∧ σ 19 i = if (ac A i).2.2.2 then 1 else 0) ∧
  (σ 20 0 = 0 ∨ (σ 20 0 = 1 ∧ SolM A.1 σ))
def BelM (Γ : Gam) (σ : mS) : Prop := ∀ x, x < 28 → ∀ s, bt (pv σ x) s = true → Lst Γ x s
def GrM (σ τ : mS) : Prop := ∀ x, x < 28 → ∀ s, bt (pv σ x) s = true → bt (pv τ x) s = true
def tot (σ : mS) : Nat := fb_sm (fun v => zcnt (σ 21 v)) 12 + fb_sm (fun i => zcnt (σ 22 i)) 16
def X1p_badV (vs : List Int32) (_ : mS) : Prop := ∃ v, vs = [v]
def X1q_badV (vs : List Int32) (_ : mS) (r : Int32) : Prop := ∀ v, vs = [v] → (r = 1 ∧ bdN 12 v) ∨ (r = 0 ∧ ∃ j, j < 12 ∧ v = nI j)
def X1p_badF (vs : List Int32) (_ : mS) : Prop := ∃ v, vs = [v]
def X1q_badF (vs : List Int32) (_ : mS) (r : Int32) : Prop := ∀ v, vs = [v] → (r = 1 ∧ bdN 2 v) ∨ (r = 0 ∧ ∃ j, j < 2 ∧ v = nI j)
def X1p_size (vs : List Int32) (_ : mS) : Prop := ∃ a, vs = [a]
def X1q_size (vs : List Int32) (_ : mS) (r : Int32) : Prop := ∀ a, vs = [a] → r = nI (zcnt a)
def X1p_sweep (Γ : Gam) (vs : List Int32) (σ : mS) : Prop := MC Γ σ ∧ BelM Γ σ ∧ vs = []
def X1q_sweep (Γ : Gam) (_ : List Int32) (σ τ : mS) : Prop := (∀ k, k ≠ 21 → k ≠ 22 → τ k = σ k) ∧ BelM Γ τ ∧ GrM σ τ ∧ (GrM τ σ → SolM Γ σ)
def X1p_total (vs : List Int32) (_ : mS) : Prop := vs = []
def X1q_total (_ : List Int32) (σ : mS) (r : Int32) : Prop := r = nI (tot σ)
def X1p_workOut (Γ : Gam) (vs : List Int32) (σ : mS) : Prop := vs = [] ∧ MC Γ σ ∧ (σ 20 0 = 0 ∨ (σ 20 0 = 1 ∧ SolM Γ σ))
def X1q_workOut (Γ : Gam) (_ : List Int32) (σ τ : mS) : Prop := (∀ k, k ≠ 20 → k ≠ 21 → k ≠ 22 → τ k = σ k) ∧ τ 20 0 = 1 ∧ SolM Γ τ
def X1p_alloc (A : AS) (vs : List Int32) (σ : mS) : Prop := RepM A σ ∧ ∃ v s, vs = [v, s]
def X1q_alloc (A : AS) (vs : List Int32) (_ : mS) (r : Int32) (τ : mS) : Prop := ∀ v s, vs = [v, s] → r = (opAlloc A v s).1 ∧ RepM (opAlloc A v s).2 τ
def X1p_copy (A : AS) (vs : List Int32) (σ : mS) : Prop := RepM A σ ∧ ∃ v w, vs = [v, w]
def X1q_copy (A : AS) (vs : List Int32) (_ : mS) (r : Int32) (τ : mS) : Prop := ∀ v w, vs = [v, w] → r = (opCopy A v w).1 ∧ RepM (opCopy A v w).2 τ
def X1p_load (A : AS) (vs : List Int32) (σ : mS) : Prop := RepM A σ ∧ ∃ v w f, vs = [v, w, f]
def X1q_load (A : AS) (vs : List Int32) (_ : mS) (r : Int32) (τ : mS) : Prop := ∀ v w f, vs = [v, w, f] → r = (opLoad A v w f).1 ∧ RepM (opLoad A v w f).2 τ
def X1p_store (A : AS) (vs : List Int32) (σ : mS) : Prop := RepM A σ ∧ ∃ v f w, vs = [v, f, w]
def X1q_store (A : AS) (vs : List Int32) (_ : mS) (r : Int32) (τ : mS) : Prop := ∀ v f w, vs = [v, f, w] → r = (opStore A v f w).1 ∧ RepM (opStore A v f w).2 τ
def X1p_once (A : AS) (vs : List Int32) (σ : mS) : Prop := RepM A σ ∧ ∃ s b, vs = [s, b] ∧ (b = 0 ∨ b = 1)
def X1q_once (A : AS) (vs : List Int32) (_ : mS) (r : Int32) (τ : mS) : Prop := ∀ s b, vs = [s, b] → r = (opOnce A s b).1 ∧ RepM (opOnce A s b).2 τ
def X1p_region (A : AS) (vs : List Int32) (σ : mS) : Prop := RepM A σ ∧ ∃ t v a, vs = [t, v, a]
def X1q_region (A : AS) (vs : List Int32) (_ : mS) (r : Int32) (τ : mS) : Prop := ∀ t v a, vs = [t, v, a] → r = (opRegion A t v a).1 ∧ RepM (opRegion A t v a).2 τ
def X1p_badPlace (vs : List Int32) (σ : mS) : Prop := ∃ p n, vs = [p] ∧ n ≤ 12 ∧ σ 11 0 = nI n
def X1q_badPlace (vs : List Int32) (σ : mS) (r : Int32) : Prop := ∀ p n, vs = [p] → n ≤ 12 → σ 11 0 = nI n → (r = 1 ∧ bdN (4 + n) p) ∨ (r = 0 ∧ ∃ j, j < 4 + n ∧ p = nI j)
def X1p_access (A : AS) (vs : List Int32) (σ : mS) : Prop := RepM A σ ∧ ∃ p v f w, vs = [p, v, f, w] ∧ (w = 0 ∨ w = 1)
def X1q_access (A : AS) (vs : List Int32) (_ : mS) (r : Int32) (τ : mS) : Prop := ∀ p v f w, vs = [p, v, f, w] → r = (opAccess A p v f w).1 ∧ RepM (opAccess A p v f w).2 τ
def X1p_pointsTo (A : AS) (vs : List Int32) (σ : mS) : Prop := RepM A σ ∧ ∃ v, vs = [v]
def X1q_pointsTo (A : AS) (vs : List Int32) (_ : mS) (r : Int32) (τ : mS) : Prop := ∀ v, vs = [v] → r = ansPoints A v ∧ RepM A τ
def X1p_holds (A : AS) (vs : List Int32) (σ : mS) : Prop := RepM A σ ∧ ∃ s f, vs = [s, f]
def X1q_holds (A : AS) (vs : List Int32) (_ : mS) (r : Int32) (τ : mS) : Prop := ∀ s f, vs = [s, f] → r = ansHolds A s f ∧ RepM A τ
def X1p_threadAt (A : AS) (vs : List Int32) (σ : mS) : Prop := RepM A σ ∧ ∃ p, p < 4 + A.2.2.1.length ∧ vs = [nI p]
def X1q_threadAt (A : AS) (vs : List Int32) (_ : mS) (r : Int32) : Prop := ∀ p, p < 4 + A.2.2.1.length → vs = [nI p] → r = nI (thr A p)
def X1p_held (A : AS) (vs : List Int32) (σ : mS) : Prop := RepM A σ ∧ ∃ p, vs = [p]
def X1q_held (A : AS) (vs : List Int32) (_ : mS) (r : Int32) (τ : mS) : Prop := ∀ p, vs = [p] → r = ansHeld A p ∧ RepM A τ
def X1p_race (A : AS) (vs : List Int32) (σ : mS) : Prop := RepM A σ ∧ ∃ i j, vs = [i, j]
def X1q_race (A : AS) (vs : List Int32) (_ : mS) (r : Int32) (τ : mS) : Prop := ∀ i j, vs = [i, j] → r = ansRace A i j ∧ RepM A τ
def X1p_races (A : AS) (vs : List Int32) (σ : mS) : Prop := RepM A σ ∧ vs = []
def X1q_races (A : AS) (_ : List Int32) (_ : mS) (r : Int32) (τ : mS) : Prop := r = ansRaces A ∧ RepM A τ
/-- steps from what w refers to to what v refers to, put in for thread th -/
def X1p_step (vs : List Int32) (_ : mS) : Prop := ∃ th w v, th < 4 ∧ w < 12 ∧ v < 12 ∧ vs = [nI th, nI w, nI v]
def X1q_step (vs : List Int32) (σ τ : mS) : Prop := ∀ th w v, th < 4 → w < 12 → v < 12 → vs = [nI th, nI w, nI v] → (∀ k, k ≠ 23 → τ k = σ k) ∧
  ∀ t a b, t < 4 → a < 8 → (bt (τ 23 (t * 8 + a)) b = true ↔ (bt (σ 23 (t * 8 + a)) b = true ∨ (t = th ∧ bt (σ 21 w) a = true ∧ bt (σ 21 v) b = true ∧ ¬ (a = b ∧ ¬ σ 10 a = 0))))
def SMm (A : AS) (σ : mS) : Prop := ∀ t a b, t < 4 → a < 8 → (bt (σ 23 (t * 8 + a)) b = true ↔ Stp2 A t a b)
def X1p_allSteps (A : AS) (vs : List Int32) (σ : mS) : Prop := RepM A σ ∧ SolM A.1 σ ∧ vs = []
def X1q_allSteps (A : AS) (_ : List Int32) (σ τ : mS) : Prop := (∀ k, k ≠ 23 → τ k = σ k) ∧ SMm A τ
def X1p_beyond (vs : List Int32) (_ : mS) : Prop := ∃ x, vs = [x]
def X1q_beyond (vs : List Int32) (σ : mS) (r : Int32) : Prop := ∀ x, vs = [x] → ∀ b, bt r b = true ↔ ∃ t a, t < 4 ∧ a < 8 ∧ bt x a = true ∧ bt (σ 23 (t * 8 + a)) b = true
/-- the numbers of steps are in range -/
def StB (A : AS) : Prop := ∀ t a b, Stp2 A t a b → t < 4 ∧ a < 8 ∧ b < 8
def RcM (A : AS) (σ : mS) : Prop := ∀ s, s < 8 → ∀ b, bt (σ 24 s) b = true ↔ Rch (anyStp A) s b
def X1p_allWays (A : AS) (vs : List Int32) (σ : mS) : Prop := StB A ∧ SMm A σ ∧ vs = []
def X1q_allWays (A : AS) (_ : List Int32) (σ τ : mS) : Prop := (∀ k, k ≠ 24 → τ k = σ k) ∧ RcM A τ
def X1p_threadsAround (A : AS) (vs : List Int32) (σ : mS) : Prop := StB A ∧ SMm A σ ∧ RcM A σ ∧ ∃ s, s < 8 ∧ vs = [nI s]
def X1q_threadsAround (A : AS) (vs : List Int32) (_ : mS) (r : Int32) : Prop := ∀ s, s < 8 → vs = [nI s] → (¬ r ≤ 1 ↔ Dng A s)
def X1p_danger (A : AS) (vs : List Int32) (σ : mS) : Prop := RepM A σ ∧ vs = []
def X1q_danger (A : AS) (_ : List Int32) (_ : mS) (r : Int32) (τ : mS) : Prop := r = dngm A ∧ RepM A τ
end
section
/-! printed by gen/run.py: programs and verification conditions -/
set_option maxRecDepth 100000
def X1t_badV : mT := mTp X1p_badV X1q_badV
def X1t_badF : mT := mTp X1p_badF X1q_badF
def X1t_size : mT := mTp X1p_size X1q_size
def X1t_sweep : mT := mGv X1p_sweep X1q_sweep
def X1t_total : mT := mTp X1p_total X1q_total
def X1t_workOut : mT := mGv X1p_workOut X1q_workOut
def X1t_alloc : mT := mGi X1p_alloc X1q_alloc
def X1t_copy : mT := mGi X1p_copy X1q_copy
def X1t_load : mT := mGi X1p_load X1q_load
def X1t_store : mT := mGi X1p_store X1q_store
def X1g_badV : mP := (X1b_badV, flX1, fdX1, some .boolean, [], [])
theorem X1v_badV_0 {G : Nat → mL → List mv → mS → Prop} {Q : Option Int32 → mS → Prop} (hG : mCl X1g_badV G Q) (v1 : Int32) (σ : mS)
    (h : ((v1 < (0 : Int32) → (((1 : Int32) = 0 ∨ (1 : Int32) = 1) ∧ Q (some 1) σ)) ∧ (¬ v1 < (0 : Int32) → ((v1 ≤ (11 : Int32) → (((0 : Int32) = 0 ∨ (0 : Int32) = 1) ∧ Q (some 0) σ)) ∧ (¬ v1 ≤ (11 : Int32) → (((1 : Int32) = 0 ∨ (1 : Int32) = 1) ∧ Q (some 1) σ)))))) : G 0 [some (.inr 99), some (.inl v1)] [] σ := hG 8 0 _ _ _ h
def X1g_badF : mP := (X1b_badF, flX1, fdX1, some .boolean, [], [])
theorem X1v_badF_0 {G : Nat → mL → List mv → mS → Prop} {Q : Option Int32 → mS → Prop} (hG : mCl X1g_badF G Q) (v1 : Int32) (σ : mS)
    (h : ((v1 < (0 : Int32) → (((1 : Int32) = 0 ∨ (1 : Int32) = 1) ∧ Q (some 1) σ)) ∧ (¬ v1 < (0 : Int32) → ((v1 ≤ (1 : Int32) → (((0 : Int32) = 0 ∨ (0 : Int32) = 1) ∧ Q (some 0) σ)) ∧ (¬ v1 ≤ (1 : Int32) → (((1 : Int32) = 0 ∨ (1 : Int32) = 1) ∧ Q (some 1) σ)))))) : G 0 [some (.inr 99), some (.inl v1)] [] σ := hG 8 0 _ _ _ h
def X1g_size : mP := (X1b_size, flX1, fdX1, some .int, [], [(4, [true, true, true, true])])
theorem X1v_size_0 {G : Nat → mL → List mv → mS → Prop} {Q : Option Int32 → mS → Prop} (hG : mCl X1g_size G Q) (v1 : Int32) (σ : mS)
    (h : G 4 [some (.inr 99), some (.inl v1), some (.inl 0), some (.inl 0)] [] σ) : G 0 [some (.inr 99), some (.inl v1), none, none] [] σ := hG 5 0 _ _ _ h
theorem X1v_size_4 {G : Nat → mL → List mv → mS → Prop} {Q : Option Int32 → mS → Prop} (hG : mCl X1g_size G Q) (v1 v2 v3 : Int32) (σ : mS)
    (h : (((8 : Int32) ≤ v3 → Q (some v2) σ) ∧ (¬ (8 : Int32) ≤ v3 → G 4 [some (.inr 99), some (.inl v1), some (.inl (v2 + ((v1 >>> (v3 &&& 31)) &&& 1))), some (.inl (v3 + 1))] [] σ))) : G 4 [some (.inr 99), some (.inl v1), some (.inl v2), some (.inl v3)] [] σ := hG 14 4 _ _ _ h
def X1g_sweep : mP := (X1b_sweep, flX1, fdX1, none, [], [(2, [true, true, false]), (29, [true, true, true]), (82, [true, true, false]), (92, [true, true, true]), (169, [true, true, false]), (179, [true, true, true])])
theorem X1v_sweep_0 {G : Nat → mL → List mv → mS → Prop} {Q : Option Int32 → mS → Prop} (hG : mCl X1g_sweep G Q) (σ : mS)
    (h : G 2 [some (.inr 99), some (.inl 0), none] [] σ) : G 0 [some (.inr 99), none, none] [] σ := hG 3 0 _ _ _ h
theorem X1v_sweep_2 {G : Nat → mL → List mv → mS → Prop} {Q : Option Int32 → mS → Prop} (hG : mCl X1g_sweep G Q) (v1 : Int32) (σ : mS)
    (h : (((12 : Int32) ≤ v1 → G 82 [some (.inr 99), some (.inl 0), none] [] σ) ∧ (¬ (12 : Int32) ≤ v1 → (vp_in v1 12 ∧ ∀ x1 : Int32, x1 = σ 21 v1.toNatClampNeg → (vp_in v1 12 ∧ ∀ x2 : Int32, x2 = σ 0 v1.toNatClampNeg → (vp_in v1 12 ∧ G 29 [some (.inr 99), some (.inl v1), some (.inl 0)] [] (mU σ 21 v1.toNatClampNeg (x1 ||| x2)))))))) : G 2 [some (.inr 99), some (.inl v1), none] [] σ := hG 19 2 _ _ _ h
theorem X1v_sweep_29 {G : Nat → mL → List mv → mS → Prop} {Q : Option Int32 → mS → Prop} (hG : mCl X1g_sweep G Q) (v1 v2 : Int32) (σ : mS)
    (h : (((12 : Int32) ≤ v2 → G 2 [some (.inr 99), some (.inl (v1 + 1)), none] [] σ) ∧ (¬ (12 : Int32) ≤ v2 → (vp_in v1 12 ∧ ∀ x1 : Int32, x1 = σ 1 v1.toNatClampNeg → ((¬ ((x1 >>> (v2 &&& 31)) &&& 1) = (1 : Int32) → G 29 [some (.inr 99), some (.inl v1), some (.inl (v2 + 1))] [] σ) ∧ (((x1 >>> (v2 &&& 31)) &&& 1) = (1 : Int32) → (vp_in v1 12 ∧ ∀ x2 : Int32, x2 = σ 21 v1.toNatClampNeg → (vp_in v2 12 ∧ ∀ x3 : Int32, x3 = σ 21 v2.toNatClampNeg → (vp_in v1 12 ∧ G 29 [some (.inr 99), some (.inl v1), some (.inl (v2 + 1))] [] (mU σ 21 v1.toNatClampNeg (x2 ||| x3))))))))))) : G 29 [some (.inr 99), some (.inl v1), some (.inl v2)] [] σ := hG 29 29 _ _ _ h
theorem X1v_sweep_82 {G : Nat → mL → List mv → mS → Prop} {Q : Option Int32 → mS → Prop} (hG : mCl X1g_sweep G Q) (v1 : Int32) (σ : mS)
    (h : (((σ 2 0) ≤ v1 → G 169 [some (.inr 99), some (.inl 0), none] [] σ) ∧ (¬ (σ 2 0) ≤ v1 → G 92 [some (.inr 99), some (.inl v1), some (.inl 0)] [] σ))) : G 82 [some (.inr 99), some (.inl v1), none] [] σ := hG 7 82 _ _ _ h
theorem X1v_sweep_92 {G : Nat → mL → List mv → mS → Prop} {Q : Option Int32 → mS → Prop} (hG : mCl X1g_sweep G Q) (v1 v2 : Int32) (σ : mS)
    (h : (((8 : Int32) ≤ v2 → G 82 [some (.inr 99), some (.inl (v1 + 1)), none] [] σ) ∧ (¬ (8 : Int32) ≤ v2 → (vp_in v1 20 ∧ ∀ x1 : Int32, x1 = σ 4 v1.toNatClampNeg → (vp_in x1 12 ∧ ∀ x2 : Int32, x2 = σ 21 x1.toNatClampNeg → ((¬ ((x2 >>> (v2 &&& 31)) &&& 1) = (1 : Int32) → G 92 [some (.inr 99), some (.inl v1), some (.inl (v2 + 1))] [] σ) ∧ (((x2 >>> (v2 &&& 31)) &&& 1) = (1 : Int32) → (vp_in v1 20 ∧ ∀ x3 : Int32, x3 = σ 3 v1.toNatClampNeg → (vp_in v1 20 ∧ ∀ x4 : Int32, x4 = σ 3 v1.toNatClampNeg → (vp_in x4 12 ∧ ∀ x5 : Int32, x5 = σ 21 x4.toNatClampNeg → (vp_in v1 20 ∧ ∀ x6 : Int32, x6 = σ 5 v1.toNatClampNeg → (vp_in ((v2 * 2) + x6) 16 ∧ ∀ x7 : Int32, x7 = σ 22 ((v2 * 2) + x6).toNatClampNeg → (vp_in x3 12 ∧ G 92 [some (.inr 99), some (.inl v1), some (.inl (v2 + 1))] [] (mU σ 21 x3.toNatClampNeg (x5 ||| x7))))))))))))))) : G 92 [some (.inr 99), some (.inl v1), some (.inl v2)] [] σ := hG 45 92 _ _ _ h
theorem X1v_sweep_169 {G : Nat → mL → List mv → mS → Prop} {Q : Option Int32 → mS → Prop} (hG : mCl X1g_sweep G Q) (v1 : Int32) (σ : mS)
    (h : (((σ 6 0) ≤ v1 → Q none σ) ∧ (¬ (σ 6 0) ≤ v1 → G 179 [some (.inr 99), some (.inl v1), some (.inl 0)] [] σ))) : G 169 [some (.inr 99), some (.inl v1), none] [] σ := hG 7 169 _ _ _ h
theorem X1v_sweep_179 {G : Nat → mL → List mv → mS → Prop} {Q : Option Int32 → mS → Prop} (hG : mCl X1g_sweep G Q) (v1 v2 : Int32) (σ : mS)
    (h : (((8 : Int32) ≤ v2 → G 169 [some (.inr 99), some (.inl (v1 + 1)), none] [] σ) ∧ (¬ (8 : Int32) ≤ v2 → (vp_in v1 20 ∧ ∀ x1 : Int32, x1 = σ 7 v1.toNatClampNeg → (vp_in x1 12 ∧ ∀ x2 : Int32, x2 = σ 21 x1.toNatClampNeg → ((¬ ((x2 >>> (v2 &&& 31)) &&& 1) = (1 : Int32) → G 179 [some (.inr 99), some (.inl v1), some (.inl (v2 + 1))] [] σ) ∧ (((x2 >>> (v2 &&& 31)) &&& 1) = (1 : Int32) → (vp_in v1 20 ∧ ∀ x3 : Int32, x3 = σ 9 v1.toNatClampNeg → (vp_in v1 20 ∧ ∀ x4 : Int32, x4 = σ 9 v1.toNatClampNeg → (vp_in ((v2 * 2) + x4) 16 ∧ ∀ x5 : Int32, x5 = σ 22 ((v2 * 2) + x4).toNatClampNeg → (vp_in v1 20 ∧ ∀ x6 : Int32, x6 = σ 8 v1.toNatClampNeg → (vp_in x6 12 ∧ ∀ x7 : Int32, x7 = σ 21 x6.toNatClampNeg → (vp_in ((v2 * 2) + x3) 16 ∧ G 179 [some (.inr 99), some (.inl v1), some (.inl (v2 + 1))] [] (mU σ 22 ((v2 * 2) + x3).toNatClampNeg (x5 ||| x7))))))))))))))) : G 179 [some (.inr 99), some (.inl v1), some (.inl v2)] [] σ := hG 49 179 _ _ _ h
def X1g_total : mP := (X1b_total, flX1, fdX1, some .int, [(78, 1, true, X1t_size)], [(4, [true, true, true, false]), (33, [true, true, true, false])])
theorem X1v_total_0 {G : Nat → mL → List mv → mS → Prop} {Q : Option Int32 → mS → Prop} (hG : mCl X1g_total G Q) (σ : mS)
    (h : G 4 [some (.inr 99), some (.inl 0), some (.inl 0), none] [] σ) : G 0 [some (.inr 99), none, none, none] [] σ := hG 5 0 _ _ _ h
theorem X1v_total_4 {G : Nat → mL → List mv → mS → Prop} {Q : Option Int32 → mS → Prop} (hG : mCl X1g_total G Q) (v1 v2 : Int32) (σ : mS)
    (h : (((12 : Int32) ≤ v2 → G 33 [some (.inr 99), some (.inl v1), some (.inl 0), none] [] σ) ∧ (¬ (12 : Int32) ≤ v2 → (vp_in v2 12 ∧ ∀ x1 : Int32, x1 = σ 21 v2.toNatClampNeg → (X1p_size [x1] σ ∧ ∀ x2 : Int32, X1q_size [x1] σ x2 → G 4 [some (.inr 99), some (.inl (v1 + x2)), some (.inl (v2 + 1)), none] [] σ))))) : G 4 [some (.inr 99), some (.inl v1), some (.inl v2), none] [] σ := hG 17 4 _ _ _ h
theorem X1v_total_33 {G : Nat → mL → List mv → mS → Prop} {Q : Option Int32 → mS → Prop} (hG : mCl X1g_total G Q) (v1 v2 : Int32) (σ : mS)
    (h : (((16 : Int32) ≤ v2 → Q (some v1) σ) ∧ (¬ (16 : Int32) ≤ v2 → (vp_in v2 16 ∧ ∀ x1 : Int32, x1 = σ 22 v2.toNatClampNeg → (X1p_size [x1] σ ∧ ∀ x2 : Int32, X1q_size [x1] σ x2 → G 33 [some (.inr 99), some (.inl (v1 + x2)), some (.inl (v2 + 1)), none] [] σ))))) : G 33 [some (.inr 99), some (.inl v1), some (.inl v2), none] [] σ := hG 17 33 _ _ _ h
def X1g_workOut : mP := (X1b_workOut, flX1, fdX1, none, [(86, 0, true, X1t_sweep), (89, 0, true, X1t_total)], [(15, [true, true, false, false]), (36, [true, true, false, false]), (61, [true, true, true, true])])
theorem X1v_workOut_0 {G : Nat → mL → List mv → mS → Prop} {Q : Option Int32 → mS → Prop} (hG : mCl X1g_workOut G Q) (σ : mS)
    (h : (((σ 20 0) = (0 : Int32) → (((1 : Int32) = 0 ∨ (1 : Int32) = 1) ∧ G 15 [some (.inr 99), some (.inl 0), none, none] [] (mU σ 20 0 1))) ∧ (¬ (σ 20 0) = (0 : Int32) → Q none σ))) : G 0 [some (.inr 99), none, none, none] [] σ := hG 9 0 _ _ _ h
theorem X1v_workOut_15 {G : Nat → mL → List mv → mS → Prop} {Q : Option Int32 → mS → Prop} (hG : mCl X1g_workOut G Q) (v1 : Int32) (σ : mS)
    (h : (((12 : Int32) ≤ v1 → G 36 [some (.inr 99), some (.inl 0), none, none] [] σ) ∧ (¬ (12 : Int32) ≤ v1 → (vp_in v1 12 ∧ G 15 [some (.inr 99), some (.inl (v1 + 1)), none, none] [] (mU σ 21 v1.toNatClampNeg 0))))) : G 15 [some (.inr 99), some (.inl v1), none, none] [] σ := hG 11 15 _ _ _ h
theorem X1v_workOut_36 {G : Nat → mL → List mv → mS → Prop} {Q : Option Int32 → mS → Prop} (hG : mCl X1g_workOut G Q) (v1 : Int32) (σ : mS)
    (h : (((16 : Int32) ≤ v1 → G 61 [some (.inr 99), some (.inl (-1)), some (.inl 0), some (.inl 0)] [] σ) ∧ (¬ (16 : Int32) ≤ v1 → (vp_in v1 16 ∧ G 36 [some (.inr 99), some (.inl (v1 + 1)), none, none] [] (mU σ 22 v1.toNatClampNeg 0))))) : G 36 [some (.inr 99), some (.inl v1), none, none] [] σ := hG 11 36 _ _ _ h
theorem X1v_workOut_61 {G : Nat → mL → List mv → mS → Prop} {Q : Option Int32 → mS → Prop} (hG : mCl X1g_workOut G Q) (v1 v2 v3 : Int32) (σ : mS)
    (h : (((226 : Int32) ≤ v3 → Q none σ) ∧ (¬ (226 : Int32) ≤ v3 → ((v2 = v1 → Q none σ) ∧ (¬ v2 = v1 → (∃ g1 : Gam, X1p_sweep g1 [] σ ∧ ∀ s2 : mS, X1q_sweep g1 [] σ s2 → (X1p_total [] s2 ∧ ∀ x3 : Int32, X1q_total [] s2 x3 → G 61 [some (.inr 99), some (.inl v2), some (.inl x3), some (.inl (v3 + 1))] [] s2))))))) : G 61 [some (.inr 99), some (.inl v1), some (.inl v2), some (.inl v3)] [] σ := hG 16 61 _ _ _ h
def X1g_alloc : mP := (X1b_alloc, flX1, fdX1, some .int, [(93, 1, true, X1t_badV), (97, 0, true, X1t_workOut), (78, 1, true, X1t_size)], [])
theorem X1v_alloc_0 {G : Nat → mL → List mv → mS → Prop} {Q : Option Int32 → mS → Prop} (hG : mCl X1g_alloc G Q) (v1 v2 : Int32) (σ : mS)
    (h : (X1p_badV [v1] σ ∧ ∀ x1 : Int32, X1q_badV [v1] σ x1 → ((¬ x1 = (0 : Int32) → Q (some (-1)) σ) ∧ (x1 = (0 : Int32) → ((v2 < (0 : Int32) → Q (some (-1)) σ) ∧ (¬ v2 < (0 : Int32) → ((v2 ≤ (7 : Int32) → (vp_in v1 12 ∧ ∀ x2 : Int32, x2 = σ 0 v1.toNatClampNeg → (vp_in v1 12 ∧ (((0 : Int32) = 0 ∨ (0 : Int32) = 1) ∧ (∃ g3 : Gam, X1p_workOut g3 [] (mU (mU σ 0 v1.toNatClampNeg (x2 ||| ((1 : Int32) <<< (v2 &&& 31)))) 20 0 0) ∧ ∀ s4 : mS, X1q_workOut g3 [] (mU (mU σ 0 v1.toNatClampNeg (x2 ||| ((1 : Int32) <<< (v2 &&& 31)))) 20 0 0) s4 → (vp_in v1 12 ∧ ∀ x5 : Int32, x5 = s4 21 v1.toNatClampNeg → (X1p_size [x5] s4 ∧ ∀ x6 : Int32, X1q_size [x5] s4 x6 → Q (some x6) s4))))))) ∧ (¬ v2 ≤ (7 : Int32) → Q (some (-1)) σ)))))))) : G 0 [some (.inr 99), some (.inl v1), some (.inl v2)] [] σ := hG 33 0 _ _ _ h
def X1g_copy : mP := (X1b_copy, flX1, fdX1, some .int, [(93, 1, true, X1t_badV), (97, 0, true, X1t_workOut), (78, 1, true, X1t_size)], [])
theorem X1v_copy_0 {G : Nat → mL → List mv → mS → Prop} {Q : Option Int32 → mS → Prop} (hG : mCl X1g_copy G Q) (v1 v2 : Int32) (σ : mS)
    (h : (X1p_badV [v1] σ ∧ ∀ x1 : Int32, X1q_badV [v1] σ x1 → ((¬ x1 = (0 : Int32) → Q (some (-1)) σ) ∧ (x1 = (0 : Int32) → (X1p_badV [v2] σ ∧ ∀ x2 : Int32, X1q_badV [v2] σ x2 → ((x2 = (0 : Int32) → (vp_in v1 12 ∧ ∀ x3 : Int32, x3 = σ 1 v1.toNatClampNeg → (vp_in v1 12 ∧ (((0 : Int32) = 0 ∨ (0 : Int32) = 1) ∧ (∃ g4 : Gam, X1p_workOut g4 [] (mU (mU σ 1 v1.toNatClampNeg (x3 ||| ((1 : Int32) <<< (v2 &&& 31)))) 20 0 0) ∧ ∀ s5 : mS, X1q_workOut g4 [] (mU (mU σ 1 v1.toNatClampNeg (x3 ||| ((1 : Int32) <<< (v2 &&& 31)))) 20 0 0) s5 → (vp_in v1 12 ∧ ∀ x6 : Int32, x6 = s5 21 v1.toNatClampNeg → (X1p_size [x6] s5 ∧ ∀ x7 : Int32, X1q_size [x6] s5 x7 → Q (some x7) s5))))))) ∧ (¬ x2 = (0 : Int32) → Q (some (-1)) σ))))))) : G 0 [some (.inr 99), some (.inl v1), some (.inl v2)] [] σ := hG 32 0 _ _ _ h
def X1g_load : mP := (X1b_load, flX1, fdX1, some .int, [(93, 1, true, X1t_badV), (100, 1, true, X1t_badF), (97, 0, true, X1t_workOut), (78, 1, true, X1t_size)], [])
theorem X1v_load_0 {G : Nat → mL → List mv → mS → Prop} {Q : Option Int32 → mS → Prop} (hG : mCl X1g_load G Q) (v1 v2 v3 : Int32) (σ : mS)
    (h : (X1p_badV [v1] σ ∧ ∀ x1 : Int32, X1q_badV [v1] σ x1 → ((¬ x1 = (0 : Int32) → Q (some (-1)) σ) ∧ (x1 = (0 : Int32) → (X1p_badV [v2] σ ∧ ∀ x2 : Int32, X1q_badV [v2] σ x2 → ((¬ x2 = (0 : Int32) → Q (some (-1)) σ) ∧ (x2 = (0 : Int32) → (X1p_badF [v3] σ ∧ ∀ x3 : Int32, X1q_badF [v3] σ x3 → ((x3 = (0 : Int32) → ((¬ (σ 2 0) = (20 : Int32) → (vp_in (σ 2 0) 20 ∧ (vp_in (σ 2 0) 20 ∧ (vp_in (σ 2 0) 20 ∧ (((0 : Int32) = 0 ∨ (0 : Int32) = 1) ∧ (∃ g4 : Gam, X1p_workOut g4 [] (mU (mU (mU (mU (mU σ 3 (σ 2 0).toNatClampNeg v1) 4 (σ 2 0).toNatClampNeg v2) 5 (σ 2 0).toNatClampNeg v3) 2 0 ((σ 2 0) + 1)) 20 0 0) ∧ ∀ s5 : mS, X1q_workOut g4 [] (mU (mU (mU (mU (mU σ 3 (σ 2 0).toNatClampNeg v1) 4 (σ 2 0).toNatClampNeg v2) 5 (σ 2 0).toNatClampNeg v3) 2 0 ((σ 2 0) + 1)) 20 0 0) s5 → (vp_in v1 12 ∧ ∀ x6 : Int32, x6 = s5 21 v1.toNatClampNeg → (X1p_size [x6] s5 ∧ ∀ x7 : Int32, X1q_size [x6] s5 x7 → Q (some x7) s5)))))))) ∧ ((σ 2 0) = (20 : Int32) → Q (some (-2)) σ))) ∧ (¬ x3 = (0 : Int32) → Q (some (-1)) σ)))))))))) : G 0 [some (.inr 99), some (.inl v1), some (.inl v2), some (.inl v3)] [] σ := hG 52 0 _ _ _ h
def X1g_store : mP := (X1b_store, flX1, fdX1, some .int, [(93, 1, true, X1t_badV), (100, 1, true, X1t_badF)], [])
theorem X1v_store_0 {G : Nat → mL → List mv → mS → Prop} {Q : Option Int32 → mS → Prop} (hG : mCl X1g_store G Q) (v1 v2 v3 : Int32) (σ : mS)
    (h : (X1p_badV [v1] σ ∧ ∀ x1 : Int32, X1q_badV [v1] σ x1 → ((¬ x1 = (0 : Int32) → Q (some (-1)) σ) ∧ (x1 = (0 : Int32) → (X1p_badV [v3] σ ∧ ∀ x2 : Int32, X1q_badV [v3] σ x2 → ((¬ x2 = (0 : Int32) → Q (some (-1)) σ) ∧ (x2 = (0 : Int32) → (X1p_badF [v2] σ ∧ ∀ x3 : Int32, X1q_badF [v2] σ x3 → ((x3 = (0 : Int32) → ((¬ (σ 6 0) = (20 : Int32) → (vp_in (σ 6 0) 20 ∧ (vp_in (σ 6 0) 20 ∧ (vp_in (σ 6 0) 20 ∧ (((0 : Int32) = 0 ∨ (0 : Int32) = 1) ∧ Q (some 0) (mU (mU (mU (mU (mU σ 7 (σ 6 0).toNatClampNeg v1) 8 (σ 6 0).toNatClampNeg v3) 9 (σ 6 0).toNatClampNeg v2) 6 0 ((σ 6 0) + 1)) 20 0 0)))))) ∧ ((σ 6 0) = (20 : Int32) → Q (some (-2)) σ))) ∧ (¬ x3 = (0 : Int32) → Q (some (-1)) σ)))))))))) : G 0 [some (.inr 99), some (.inl v1), some (.inl v2), some (.inl v3)] [] σ := hG 45 0 _ _ _ h
end
section
/-! the model's solver: badV, badF, size, sweep, total, workOut meet their contracts -/
set_option maxRecDepth 100000
theorem zn_leN {v : Int32} {N : Nat} (hN : N < 2 ^ 31) (h0 : ¬ v < 0) (h : v ≤ nI N) : ∃ j, j < N + 1 ∧ v = nI j := by
  obtain ⟨j, hj, e⟩ := nI_of2 (n := N) (nI_toInt hN) h0 h
  exact ⟨j, by omega, e⟩
theorem zn_gtN {v : Int32} {N : Nat} (hN : N + 1 < 2 ^ 31) (h : ¬ v ≤ nI N) : nI (N + 1) ≤ v := by
  rw [fa_le] at h ⊢
  rw [nI_toInt (by omega)] at h
  rw [nI_toInt hN]
  omega
theorem X1d_badV (G : Nat → mL → List mv → mS → Prop) (Q : Option Int32 → mS → Prop) (vs : List Int32) (σ : mS) (hG : mCl X1g_badV G Q) (h : X1t_badV vs σ Q) : (vs.length + 1 ≤ 2 ∨ (true = false ∧ vs.length ≤ 2)) ∧ G 0 (mL0 2 true vs) [] σ := by
  obtain ⟨⟨v, rfl⟩, h⟩ := h
  refine ⟨Or.inl (Nat.le_refl 2), X1v_badV_0 hG v σ ⟨fun c => ⟨Or.inr rfl, h _ fun w e => ?_⟩, fun c => ⟨fun d => ⟨Or.inl rfl, h _ fun w e => ?_⟩, fun d => ⟨Or.inr rfl, h _ fun w e => ?_⟩⟩⟩⟩
  · cases e
    exact Or.inl ⟨rfl, Or.inl c⟩
  · cases e
    exact Or.inr ⟨rfl, zn_leN (N := 11) (by decide) c d⟩
  · cases e
    exact Or.inl ⟨rfl, Or.inr (zn_gtN (N := 11) (by decide) d)⟩
theorem X1d_badF (G : Nat → mL → List mv → mS → Prop) (Q : Option Int32 → mS → Prop) (vs : List Int32) (σ : mS) (hG : mCl X1g_badF G Q) (h : X1t_badF vs σ Q) : (vs.length + 1 ≤ 2 ∨ (true = false ∧ vs.length ≤ 2)) ∧ G 0 (mL0 2 true vs) [] σ := by
  obtain ⟨⟨v, rfl⟩, h⟩ := h
  refine ⟨Or.inl (Nat.le_refl 2), X1v_badF_0 hG v σ ⟨fun c => ⟨Or.inr rfl, h _ fun w e => ?_⟩, fun c => ⟨fun d => ⟨Or.inl rfl, h _ fun w e => ?_⟩, fun d => ⟨Or.inr rfl, h _ fun w e => ?_⟩⟩⟩⟩
  · cases e
    exact Or.inl ⟨rfl, Or.inl c⟩
  · cases e
    exact Or.inr ⟨rfl, zn_le1 c d⟩
  · cases e
    exact Or.inl ⟨rfl, Or.inr (zn_gt1 d)⟩
theorem X1d_size (G : Nat → mL → List mv → mS → Prop) (Q : Option Int32 → mS → Prop) (vs : List Int32) (σ : mS) (hG : mCl X1g_size G Q) (h : X1t_size vs σ Q) : (vs.length + 1 ≤ 4 ∨ (true = false ∧ vs.length ≤ 4)) ∧ G 0 (mL0 4 true vs) [] σ := by
  obtain ⟨⟨a, rfl⟩, h⟩ := h
  have hq : Q (some (nI (zcnt a))) σ := h _ fun w e => by cases e; rfl
  have key := zup (α := Unit) (N := 8) (H := fun i _ => G 4 [some (.inr 99), some (.inl a), some (.inl (nI (fb_ct (bt a) i))), some (.inl (nI i))] [] σ) (I := fun _ _ => True)
    (fun _ _ => X1v_size_4 hG _ _ _ σ ⟨fun _ => hq, fun c => zle (by decide) c⟩)
    (fun i _ hi _ hn => X1v_size_4 hG _ _ _ σ ⟨fun c => zge hi (by decide) c, fun _ => by
      have := hn () trivial
      rw [← zcnt_step a hi 0, ← nI_1] at this
      exact this⟩)
  exact ⟨Or.inl (Nat.le_of_ble_eq_true rfl), X1v_size_0 hG a σ (key 0 () (by omega) trivial)⟩
-- ===== one sweep, pure =====
theorem pv_lo {σ : mS} {x : Nat} (h : x < 12) : pv σ x = σ 21 x := if_pos h
theorem pv_fn {σ : mS} {s f : Nat} : pv σ (fnode s f) = σ 22 (s * 2 + f) := by
  unfold pv fnode
  rw [if_neg (by omega), show 12 + 2 * s + f - 12 = s * 2 + f by omega]
theorem fnode_ix (s f : Nat) : 12 + (s * 2 + f) = fnode s f := by
  unfold fnode
  omega
theorem zn_ix2 (s f : Nat) : (nI s * 2) + nI f = nI (s * 2 + f) := by
  rw [show (2 : Int32) = nI 2 from rfl, pk_mul, nI_add]
/-- m put into node x's set -/
def PU (υ υ' : mS) (x : Nat) (m : Int32) : Prop := (∀ k, k ≠ 21 → k ≠ 22 → υ' k = υ k) ∧ ∀ y, y < 28 → pv υ' y = if y = x then pv υ x ||| m else pv υ y
theorem PU.lo (υ : mS) {x : Nat} (hx : x < 12) (m : Int32) : PU υ (mU υ 21 x (υ 21 x ||| m)) x m := by
  refine ⟨fun k h1 _ => mU_ne h1, fun y hy => ?_⟩
  unfold pv
  by_cases h : y < 12
  · rw [if_pos h, if_pos h, if_pos hx]
    by_cases e : y = x
    · subst e
      rw [if_pos rfl, mU_s]
    · rw [if_neg e, mU_o (Or.inr e)]
  · rw [if_neg h, if_neg h, if_neg (show ¬ y = x by omega), mU_ne (by decide)]
theorem PU.hi (υ : mS) {k : Nat} (hk : k < 16) (m : Int32) : PU υ (mU υ 22 k (υ 22 k ||| m)) (12 + k) m := by
  refine ⟨fun j _ h2 => mU_ne h2, fun y hy => ?_⟩
  unfold pv
  rw [if_neg (show ¬ 12 + k < 12 by omega), Nat.add_sub_cancel_left]
  by_cases h : y < 12
  · rw [if_pos h, if_pos h, if_neg (show ¬ y = 12 + k by omega), mU_ne (by decide)]
  · rw [if_neg h, if_neg h]
    by_cases e : y = 12 + k
    · subst e
      rw [if_pos rfl, Nat.add_sub_cancel_left, mU_s]
    · rw [if_neg e, mU_o (Or.inr (by omega))]
theorem GrM.rf (σ : mS) : GrM σ σ := fun _ _ _ h => h
theorem GrM.tr {σ τ υ : mS} (h : GrM σ τ) (h2 : GrM τ υ) : GrM σ υ := fun x hx s q => h2 x hx s (h x hx s q)
def SI (Γ : Gam) (σ υ : mS) : Prop := (∀ k, k ≠ 21 → k ≠ 22 → υ k = σ k) ∧ BelM Γ υ ∧ GrM σ υ
theorem SI.put {Γ : Gam} {σ υ υ' : mS} {x : Nat} {m : Int32} (h : SI Γ σ υ) (hP : PU υ υ' x m) (hx : x < 28) (hm : ∀ s, bt m s = true → Lst Γ x s) :
    SI Γ σ υ' ∧ GrM υ υ' ∧ (GrM υ' σ → ∀ s, bt m s = true → bt (pv σ x) s = true) := by
  obtain ⟨h1, h2, h3⟩ := h
  obtain ⟨p1, p2⟩ := hP
  have hg : GrM υ υ' := by
    intro y hy s hs
    rw [p2 y hy]
    by_cases e : y = x
    · rw [if_pos e, b_or, ← e, hs]
      rfl
    · rw [if_neg e]
      exact hs
  refine ⟨⟨fun k a b => (p1 k a b).trans (h1 k a b), fun y hy s hs => ?_, h3.tr hg⟩, hg, fun q s hs => q x hx s ?_⟩
  · rw [p2 y hy] at hs
    by_cases e : y = x
    · rw [if_pos e, b_or, Bool.or_eq_true] at hs
      rw [e]
      rcases hs with hs | hs
      · exact h2 x hx s hs
      · exact hm s hs
    · rw [if_neg e] at hs
      exact h2 y hy s hs
  · rw [p2 x hx, if_pos rfl, b_or, hs, Bool.or_true]
theorem Lst.al {Γ : Gam} {v s : Nat} (h : Γ.1 v s) : Lst Γ v s := fun _ hS => hS.1 v s h
theorem Lst.cp {Γ : Gam} {v w s : Nat} (h : Γ.2.1 v w) (hs : Lst Γ w s) : Lst Γ v s := fun S hS => hS.2.1 v w h s (hs S hS)
theorem Lst.lo {Γ : Gam} {p : Nat × Nat × Nat} {s t : Nat} (hp : p ∈ Γ.2.2.1) (h8 : s < 8) (hs : Lst Γ p.2.1 s) (ht : Lst Γ (fnode s p.2.2) t) : Lst Γ p.1 t := fun S hS => hS.2.2.1 p hp s h8 (hs S hS) t (ht S hS)
theorem Lst.so {Γ : Gam} {p : Nat × Nat × Nat} {s t : Nat} (hp : p ∈ Γ.2.2.2) (h8 : s < 8) (hs : Lst Γ p.1 s) (ht : Lst Γ p.2.2 t) : Lst Γ (fnode s p.2.1) t := fun S hS => hS.2.2.2 p hp s h8 (hs S hS) t (ht S hS)
theorem Lst.lt8 {Γ : Gam} (hGB : GB Γ) {x s : Nat} (h : Lst Γ x s) : s < 8 :=
  h (fun _ s => s < 8) ⟨fun v s q => (hGB.1 v s q).2, fun _ _ _ _ q => q, fun _ _ _ _ _ _ q => q, fun _ _ _ _ _ _ q => q⟩
abbrev b0 (σ : mS) (x s : Nat) : Prop := bt (pv σ x) s = true
def DA (Γ : Gam) (σ : mS) (v : Nat) : Prop := ∀ s, Γ.1 v s → b0 σ v s
def DC (Γ : Gam) (σ : mS) (v n : Nat) : Prop := ∀ w, w < n → Γ.2.1 v w → ∀ s, b0 σ w s → b0 σ v s
def DV (Γ : Gam) (σ : mS) (n : Nat) : Prop := ∀ v, v < n → DA Γ σ v ∧ DC Γ σ v 12
def DL1 (σ : mS) (p : Nat × Nat × Nat) (n : Nat) : Prop := ∀ s, s < n → b0 σ p.2.1 s → ∀ t, b0 σ (fnode s p.2.2) t → b0 σ p.1 t
def DL (Γ : Gam) (σ : mS) (n : Nat) : Prop := ∀ (i : Nat) (p : Nat × Nat × Nat), i < n → Γ.2.2.1[i]? = some p → DL1 σ p 8
def DS1 (σ : mS) (p : Nat × Nat × Nat) (n : Nat) : Prop := ∀ s, s < n → b0 σ p.1 s → ∀ t, b0 σ p.2.2 t → b0 σ (fnode s p.2.1) t
def DS (Γ : Gam) (σ : mS) (n : Nat) : Prop := ∀ (i : Nat) (p : Nat × Nat × Nat), i < n → Γ.2.2.2[i]? = some p → DS1 σ p 8
theorem DC.next {Γ : Gam} {σ : mS} {v n : Nat} (h : DC Γ σ v n) (h2 : Γ.2.1 v n → ∀ s, b0 σ n s → b0 σ v s) : DC Γ σ v (n + 1) := fun w hw => by
  rcases Nat.lt_or_ge w n with q | q
  · exact h w q
  · have e : w = n := by omega
    subst e
    exact h2
theorem DV.next {Γ : Gam} {σ : mS} {n : Nat} (h : DV Γ σ n) (h2 : DA Γ σ n ∧ DC Γ σ n 12) : DV Γ σ (n + 1) := fun w hw => by
  rcases Nat.lt_or_ge w n with q | q
  · exact h w q
  · have e : w = n := by omega
    subst e
    exact h2
theorem DL1.next {σ : mS} {p : Nat × Nat × Nat} {n : Nat} (h : DL1 σ p n) (h2 : b0 σ p.2.1 n → ∀ t, b0 σ (fnode n p.2.2) t → b0 σ p.1 t) : DL1 σ p (n + 1) := fun w hw => by
  rcases Nat.lt_or_ge w n with q | q
  · exact h w q
  · have e : w = n := by omega
    subst e
    exact h2
theorem DS1.next {σ : mS} {p : Nat × Nat × Nat} {n : Nat} (h : DS1 σ p n) (h2 : b0 σ p.1 n → ∀ t, b0 σ p.2.2 t → b0 σ (fnode n p.2.1) t) : DS1 σ p (n + 1) := fun w hw => by
  rcases Nat.lt_or_ge w n with q | q
  · exact h w q
  · have e : w = n := by omega
    subst e
    exact h2
theorem DL.next {Γ : Gam} {σ : mS} {n : Nat} {p : Nat × Nat × Nat} (h : DL Γ σ n) (hp : Γ.2.2.1[n]? = some p) (h2 : DL1 σ p 8) : DL Γ σ (n + 1) := fun i p' hi hp' => by
  rcases Nat.lt_or_ge i n with q | q
  · exact h i p' q hp'
  · have e : i = n := by omega
    subst e
    rw [hp] at hp'
    cases hp'
    exact h2
theorem DS.next {Γ : Gam} {σ : mS} {n : Nat} {p : Nat × Nat × Nat} (h : DS Γ σ n) (hp : Γ.2.2.2[n]? = some p) (h2 : DS1 σ p 8) : DS Γ σ (n + 1) := fun i p' hi hp' => by
  rcases Nat.lt_or_ge i n with q | q
  · exact h i p' q hp'
  · have e : i = n := by omega
    subst e
    rw [hp] at hp'
    cases hp'
    exact h2
theorem sol_of {Γ : Gam} {σ : mS} (hGB : GB Γ) (hB : BelM Γ σ) (h1 : DV Γ σ 12) (h2 : DL Γ σ Γ.2.2.1.length) (h3 : DS Γ σ Γ.2.2.2.length) : SolM Γ σ := by
  intro x hx s
  refine ⟨fun h => hB x hx s h, fun h => ?_⟩
  have := h (fun y s => y < 28 ∧ b0 σ y s) ⟨fun v s q => ?_, fun v w q s hs => ?_, fun p hp s h8 a t ht => ?_, fun p hp s h8 a t ht => ?_⟩
  · exact this.2
  · have := (hGB.1 v s q).1
    exact ⟨by omega, (h1 v this).1 s q⟩
  · obtain ⟨c1, c2⟩ := hGB.2.1 v w q
    exact ⟨by omega, (h1 v c1).2 w c2 q s hs.2⟩
  · obtain ⟨c1, c2, c3⟩ := hGB.2.2.1 p hp
    obtain ⟨i, hi⟩ := List.getElem?_of_mem hp
    exact ⟨by omega, h2 i p (List.getElem?_eq_some_iff.mp hi).1 hi s h8 a.2 t ht.2⟩
  · obtain ⟨c1, c2, c3⟩ := hGB.2.2.2 p hp
    obtain ⟨i, hi⟩ := List.getElem?_of_mem hp
    exact ⟨fnode_lt h8 c2, h3 i p (List.getElem?_eq_some_iff.mp hi).1 hi s h8 a.2 t ht.2⟩
theorem X1d_sweep (G : Nat → mL → List mv → mS → Prop) (Q : Option Int32 → mS → Prop) (vs : List Int32) (σ : mS) (hG : mCl X1g_sweep G Q) (h : X1t_sweep vs σ Q) : (vs.length + 1 ≤ 3 ∨ (true = false ∧ vs.length ≤ 3)) ∧ G 0 (mL0 3 true vs) [] σ := by
  obtain ⟨Γ, ⟨hM, hB, rfl⟩, h⟩ := h
  obtain ⟨hGB, m0, m1, ⟨l1, l2, l3⟩, s1, s2, s3⟩ := hM
  -- stores
  have key169 := zup (α := mS) (N := Γ.2.2.2.length) (H := fun i υ => G 169 [some (.inr 99), some (.inl (nI i)), none] [] υ)
    (I := fun i υ => SI Γ σ υ ∧ (GrM υ σ → (DV Γ σ 12 ∧ DL Γ σ Γ.2.2.1.length) ∧ DS Γ σ i))
    (fun υ ⟨a1, a2⟩ => X1v_sweep_169 hG _ υ ⟨fun _ => h υ ⟨a1.1, a1.2.1, a1.2.2, fun q => sol_of hGB hB (a2 q).1.1 (a2 q).1.2 (a2 q).2⟩, fun c => by rw [a1.1 6 (by decide) (by decide), s1] at c; exact zle (by omega) c⟩)
    (fun i υ hi ⟨a1, a2⟩ hn => by
      refine X1v_sweep_169 hG _ υ ⟨fun c => by rw [a1.1 6 (by decide) (by decide), s1] at c; exact zge hi (by omega) c, fun _ => ?_⟩
      obtain ⟨p, hp⟩ : ∃ p, Γ.2.2.2[i]? = some p := ⟨_, List.getElem?_eq_getElem hi⟩
      obtain ⟨p1, p2, p3⟩ := s3 i p hp
      have hpm := List.mem_of_getElem? hp
      obtain ⟨b1, b2, b3⟩ := hGB.2.2.2 p hpm
      have inner := zup (α := mS) (N := 8) (H := fun s υ => G 179 [some (.inr 99), some (.inl (nI i)), some (.inl (nI s))] [] υ)
        (I := fun s υ => SI Γ σ υ ∧ (GrM υ σ → ((DV Γ σ 12 ∧ DL Γ σ Γ.2.2.1.length) ∧ DS Γ σ i) ∧ DS1 σ p s))
        (fun υ ⟨c1, c2⟩ => X1v_sweep_179 hG _ _ υ ⟨fun _ => by
          have := hn υ ⟨c1, fun q => ⟨(c2 q).1.1, (c2 q).1.2.next hp (c2 q).2⟩⟩
          rw [← nI_1] at this
          exact this, fun c => zle (by decide) c⟩)
        (fun s υ hs ⟨c1, c2⟩ hn2 => by
          have e7 : υ 7 i = nI p.1 := by rw [c1.1 7 (by decide) (by decide)]; exact p1
          have e8 : υ 8 i = nI p.2.2 := by rw [c1.1 8 (by decide) (by decide)]; exact p2
          have e9 : υ 9 i = nI p.2.1 := by rw [c1.1 9 (by decide) (by decide)]; exact p3
          have hi20 : vp_in (nI i) 20 := zi_in (by omega) (by decide)
          have ci : (nI i).toNatClampNeg = i := nI_clamp (by omega)
          have cx : (nI (s * 2 + p.2.1)).toNatClampNeg = s * 2 + p.2.1 := nI_clamp (by omega)
          have hix : vp_in (nI (s * 2 + p.2.1)) 16 := zi_in (by omega) (by decide)
          refine X1v_sweep_179 hG _ _ υ ⟨fun c => zge hs (by decide) c, fun _ => ?_⟩
          rw [ci, e7, e8, e9]
          refine ⟨hi20, fun x1 e1 => ?_⟩
          subst e1
          refine ⟨zi_in b1 (by decide), fun x2 e2 => ?_⟩
          rw [nI_clamp (by omega)] at e2
          subst e2
          refine ⟨fun d => ?_, fun d => ⟨hi20, fun x3 e3 => ⟨hi20, fun x4 e4 => ?_⟩⟩⟩
          · have := hn2 υ ⟨c1, fun q => ⟨(c2 q).1, (c2 q).2.next (fun hb => ?_)⟩⟩
            · rw [← nI_1] at this
              exact this
            · have := c1.2.2 p.1 (by omega) s hb
              rw [pv_lo b1] at this
              exact absurd ((zb_is1 _ (by omega)).mpr this) d
          · subst e3 e4
            have hb : bt (υ 21 p.1) s = true := (zb_is1 _ (by omega)).mp d
            rw [zn_ix2, cx]
            refine ⟨hix, fun x5 e5 => ⟨hi20, fun x6 e6 => ?_⟩⟩
            subst e5 e6
            refine ⟨zi_in b3 (by decide), fun x7 e7' => ⟨hix, ?_⟩⟩
            rw [nI_clamp (by omega)] at e7'
            subst e7'
            have hPU := PU.hi υ (k := s * 2 + p.2.1) (by omega) (υ 21 p.2.2)
            rw [fnode_ix] at hPU
            obtain ⟨d1, d2, d3⟩ := c1.put hPU (fnode_lt hs b2) (fun t ht => Lst.so hpm hs (c1.2.1 p.1 (by omega) s (by rw [pv_lo b1]; exact hb)) (c1.2.1 p.2.2 (by omega) t (by rw [pv_lo b3]; exact ht)))
            have := hn2 _ ⟨d1, fun q => ⟨(c2 (d2.tr q)).1, (c2 (d2.tr q)).2.next (fun _ t ht => d3 q t ?_)⟩⟩
            · rw [← nI_1] at this
              exact this
            · have := c1.2.2 p.2.2 (by omega) t ht
              rw [pv_lo b3] at this
              exact this)
      exact inner 0 υ (by omega) ⟨a1, fun q => ⟨a2 q, fun s hs => absurd hs (Nat.not_lt_zero s)⟩⟩)
  -- loads
  have key82 := zup (α := mS) (N := Γ.2.2.1.length) (H := fun i υ => G 82 [some (.inr 99), some (.inl (nI i)), none] [] υ)
    (I := fun i υ => SI Γ σ υ ∧ (GrM υ σ → DV Γ σ 12 ∧ DL Γ σ i))
    (fun υ ⟨a1, a2⟩ => X1v_sweep_82 hG _ υ ⟨fun _ => key169 0 υ (by omega) ⟨a1, fun q => ⟨a2 q, fun i p hi => absurd hi (Nat.not_lt_zero i)⟩⟩, fun c => by rw [a1.1 2 (by decide) (by decide), l1] at c; exact zle (by omega) c⟩)
    (fun i υ hi ⟨a1, a2⟩ hn => by
      refine X1v_sweep_82 hG _ υ ⟨fun c => by rw [a1.1 2 (by decide) (by decide), l1] at c; exact zge hi (by omega) c, fun _ => ?_⟩
      obtain ⟨p, hp⟩ : ∃ p, Γ.2.2.1[i]? = some p := ⟨_, List.getElem?_eq_getElem hi⟩
      obtain ⟨p1, p2, p3⟩ := l3 i p hp
      have hpm := List.mem_of_getElem? hp
      obtain ⟨b1, b2, b3⟩ := hGB.2.2.1 p hpm
      have inner := zup (α := mS) (N := 8) (H := fun s υ => G 92 [some (.inr 99), some (.inl (nI i)), some (.inl (nI s))] [] υ)
        (I := fun s υ => SI Γ σ υ ∧ (GrM υ σ → (DV Γ σ 12 ∧ DL Γ σ i) ∧ DL1 σ p s))
        (fun υ ⟨c1, c2⟩ => X1v_sweep_92 hG _ _ υ ⟨fun _ => by
          have := hn υ ⟨c1, fun q => ⟨(c2 q).1.1, (c2 q).1.2.next hp (c2 q).2⟩⟩
          rw [← nI_1] at this
          exact this, fun c => zle (by decide) c⟩)
        (fun s υ hs ⟨c1, c2⟩ hn2 => by
          have e3 : υ 3 i = nI p.1 := by rw [c1.1 3 (by decide) (by decide)]; exact p1
          have e4 : υ 4 i = nI p.2.1 := by rw [c1.1 4 (by decide) (by decide)]; exact p2
          have e5 : υ 5 i = nI p.2.2 := by rw [c1.1 5 (by decide) (by decide)]; exact p3
          have hi20 : vp_in (nI i) 20 := zi_in (by omega) (by decide)
          have ci : (nI i).toNatClampNeg = i := nI_clamp (by omega)
          have cx : (nI (s * 2 + p.2.2)).toNatClampNeg = s * 2 + p.2.2 := nI_clamp (by omega)
          have hix : vp_in (nI (s * 2 + p.2.2)) 16 := zi_in (by omega) (by decide)
          have c1' : (nI p.1).toNatClampNeg = p.1 := nI_clamp (by omega)
          refine X1v_sweep_92 hG _ _ υ ⟨fun c => zge hs (by decide) c, fun _ => ?_⟩
          rw [ci, e3, e4, e5]
          refine ⟨hi20, fun x1 e1 => ?_⟩
          subst e1
          refine ⟨zi_in b2 (by decide), fun x2 e2 => ?_⟩
          rw [nI_clamp (by omega)] at e2
          subst e2
          refine ⟨fun d => ?_, fun d => ⟨hi20, fun x3 e3 => ⟨hi20, fun x4 e4 => ?_⟩⟩⟩
          · have := hn2 υ ⟨c1, fun q => ⟨(c2 q).1, (c2 q).2.next (fun hb => ?_)⟩⟩
            · rw [← nI_1] at this
              exact this
            · have := c1.2.2 p.2.1 (by omega) s hb
              rw [pv_lo b2] at this
              exact absurd ((zb_is1 _ (by omega)).mpr this) d
          · subst e3 e4
            have hb : bt (υ 21 p.2.1) s = true := (zb_is1 _ (by omega)).mp d
            rw [c1']
            refine ⟨zi_in b1 (by decide), fun x5 e5 => ⟨hi20, fun x6 e6 => ?_⟩⟩
            subst e5 e6
            rw [zn_ix2, cx]
            refine ⟨hix, fun x7 e7' => ⟨zi_in b1 (by decide), ?_⟩⟩
            subst e7'
            have hPU := PU.lo υ (x := p.1) b1 (υ 22 (s * 2 + p.2.2))
            obtain ⟨d1, d2, d3⟩ := c1.put hPU (by omega) (fun t ht => Lst.lo hpm hs (c1.2.1 p.2.1 (by omega) s (by rw [pv_lo b2]; exact hb)) (c1.2.1 (fnode s p.2.2) (fnode_lt hs b3) t (by rw [pv_fn]; exact ht)))
            have := hn2 _ ⟨d1, fun q => ⟨(c2 (d2.tr q)).1, (c2 (d2.tr q)).2.next (fun _ t ht => d3 q t ?_)⟩⟩
            · rw [← nI_1] at this
              exact this
            · have := c1.2.2 (fnode s p.2.2) (fnode_lt hs b3) t ht
              rw [pv_fn] at this
              exact this)
      exact inner 0 υ (by omega) ⟨a1, fun q => ⟨a2 q, fun s hs => absurd hs (Nat.not_lt_zero s)⟩⟩)
  -- allocs and copies
  have key2 := zup (α := mS) (N := 12) (H := fun v υ => G 2 [some (.inr 99), some (.inl (nI v)), none] [] υ)
    (I := fun v υ => SI Γ σ υ ∧ (GrM υ σ → DV Γ σ v))
    (fun υ ⟨a1, a2⟩ => X1v_sweep_2 hG _ υ ⟨fun _ => key82 0 υ (by omega) ⟨a1, fun q => ⟨a2 q, fun i p hi => absurd hi (Nat.not_lt_zero i)⟩⟩, fun c => zle (by decide) c⟩)
    (fun v υ hv ⟨a1, a2⟩ hn => by
      have cv : (nI v).toNatClampNeg = v := nI_clamp (by omega)
      have hv12 : vp_in (nI v) 12 := zi_in hv (by decide)
      have inner := zup (α := mS) (N := 12) (H := fun w υ => G 29 [some (.inr 99), some (.inl (nI v)), some (.inl (nI w))] [] υ)
        (I := fun w υ => SI Γ σ υ ∧ (GrM υ σ → (DV Γ σ v ∧ DA Γ σ v) ∧ DC Γ σ v w))
        (fun υ ⟨c1, c2⟩ => X1v_sweep_29 hG _ _ υ ⟨fun _ => by
          have := hn υ ⟨c1, fun q => (c2 q).1.1.next ⟨(c2 q).1.2, (c2 q).2⟩⟩
          rw [← nI_1] at this
          exact this, fun c => zle (by decide) c⟩)
        (fun w υ hw ⟨c1, c2⟩ hn2 => by
          have cw : (nI w).toNatClampNeg = w := nI_clamp (by omega)
          refine X1v_sweep_29 hG _ _ υ ⟨fun c => zge hw (by decide) c, fun _ => ?_⟩
          rw [cv]
          refine ⟨hv12, fun x1 e1 => ?_⟩
          rw [c1.1 1 (by decide) (by decide)] at e1
          subst e1
          refine ⟨fun d => ?_, fun d => ⟨hv12, fun x2 e2 => ⟨zi_in hw (by decide), fun x3 e3 => ⟨hv12, ?_⟩⟩⟩⟩
          · have := hn2 υ ⟨c1, fun q => ⟨(c2 q).1, (c2 q).2.next (fun hb => ?_)⟩⟩
            · rw [← nI_1] at this
              exact this
            · exact absurd ((zb_is1 _ (by omega)).mpr ((m1 v hv w).mpr hb)) d
          · rw [cw] at e3
            subst e2 e3
            have hc : Γ.2.1 v w := (m1 v hv w).mp ((zb_is1 _ (by omega)).mp d)
            obtain ⟨d1, d2, d3⟩ := c1.put (PU.lo υ hv (υ 21 w)) (by omega) (fun t ht => Lst.cp hc (c1.2.1 w (by omega) t (by rw [pv_lo hw]; exact ht)))
            have := hn2 _ ⟨d1, fun q => ⟨(c2 (d2.tr q)).1, (c2 (d2.tr q)).2.next (fun _ t ht => d3 q t ?_)⟩⟩
            · rw [← nI_1] at this
              exact this
            · have := c1.2.2 w (by omega) t ht
              rw [pv_lo hw] at this
              exact this)
      refine X1v_sweep_2 hG _ υ ⟨fun c => zge hv (by decide) c, fun _ => ?_⟩
      rw [cv]
      refine ⟨hv12, fun x1 e1 => ⟨hv12, fun x2 e2 => ⟨hv12, ?_⟩⟩⟩
      rw [a1.1 0 (by decide) (by decide)] at e2
      subst e1 e2
      obtain ⟨d1, d2, d3⟩ := a1.put (PU.lo υ hv (σ 0 v)) (by omega) (fun t ht => Lst.al ((m0 v hv t).mp ht))
      exact inner 0 _ (by omega) ⟨d1, fun q => ⟨⟨a2 (d2.tr q), fun s hs => d3 q s ((m0 v hv s).mpr hs)⟩, fun w hw => absurd hw (Nat.not_lt_zero w)⟩⟩)
  exact ⟨Or.inl (Nat.le_of_ble_eq_true rfl), X1v_sweep_0 hG σ (key2 0 σ (by omega) ⟨⟨fun _ _ _ => rfl, hB, GrM.rf σ⟩, fun _ v hv => absurd hv (Nat.not_lt_zero v)⟩)⟩
-- ===== the count =====
theorem tot_pv (σ : mS) : tot σ = fb_sm (fun x => zcnt (pv σ x)) 28 := by
  have e := fb_sm_split (fun x => zcnt (pv σ x)) 12 16
  have e1 : fb_sm (fun x => zcnt (pv σ x)) 12 = fb_sm (fun v => zcnt (σ 21 v)) 12 := fb_sm_cong fun k hk => by rw [pv_lo hk]
  have e2 : fb_sm (fun k => zcnt (pv σ (12 + k))) 16 = fb_sm (fun i => zcnt (σ 22 i)) 16 := fb_sm_cong fun k hk => by
    unfold pv
    rw [if_neg (by omega), Nat.add_sub_cancel_left]
  unfold tot
  rw [← e1, ← e2]
  exact e.symm
theorem tot_le (σ : mS) : tot σ ≤ 224 := by
  rw [tot_pv]
  exact fb_sm_bound (c := 8) (n := 28) (fun k _ => zcnt_le (pv σ k))
theorem tot_mono {σ τ : mS} (hG : GrM σ τ) : tot σ ≤ tot τ := by
  rw [tot_pv, tot_pv]
  exact fb_sm_le fun k hk => zcnt_mono (hG k hk)
theorem tot_lt {σ τ : mS} (hG : GrM σ τ) {x s : Nat} (hx : x < 28) (hs : s < 8) (h1 : bt (pv σ x) s = false) (h2 : bt (pv τ x) s = true) : tot σ + 1 ≤ tot τ := by
  rw [tot_pv, tot_pv]
  have h3 := zcnt_lt (hG x hx) hs h1 h2
  have e : fb_sm (fun k => if k = x then zcnt (pv τ x) else zcnt (pv σ k)) 28 + zcnt (pv σ x) = fb_sm (fun x => zcnt (pv σ x)) 28 + zcnt (pv τ x) := fb_sm_upd (fun x => zcnt (pv σ x)) (zcnt (pv τ x)) hx
  have h4 : fb_sm (fun k => if k = x then zcnt (pv τ x) else zcnt (pv σ k)) 28 ≤ fb_sm (fun x => zcnt (pv τ x)) 28 := by
    refine fb_sm_le fun k hk => ?_
    by_cases q : k = x
    · rw [if_pos q, q]; exact Nat.le_refl _
    · rw [if_neg q]; exact zcnt_mono (hG k hk)
  omega
theorem tot_same {σ τ : mS} (hG : GrM σ τ) (h8 : ∀ x, x < 28 → ∀ s, bt (pv τ x) s = true → s < 8) (h : tot τ = tot σ) : GrM τ σ := by
  intro x hx s hs
  cases hb : bt (pv σ x) s
  · have := tot_lt hG hx (h8 x hx s hs) hb hs
    omega
  · rfl
theorem X1d_total (G : Nat → mL → List mv → mS → Prop) (Q : Option Int32 → mS → Prop) (vs : List Int32) (σ : mS) (hG : mCl X1g_total G Q) (h : X1t_total vs σ Q) : (vs.length + 1 ≤ 4 ∨ (true = false ∧ vs.length ≤ 4)) ∧ G 0 (mL0 4 true vs) [] σ := by
  obtain ⟨rfl, h⟩ := h
  have hq : Q (some (nI (tot σ))) σ := h _ rfl
  have key33 := zup (α := Unit) (N := 16) (H := fun i _ => G 33 [some (.inr 99), some (.inl (nI (fb_sm (fun v => zcnt (σ 21 v)) 12 + fb_sm (fun i => zcnt (σ 22 i)) i))), some (.inl (nI i)), none] [] σ) (I := fun _ _ => True)
    (fun _ _ => X1v_total_33 hG _ _ σ ⟨fun _ => hq, fun c => zle (by decide) c⟩)
    (fun i _ hi _ hn => X1v_total_33 hG _ _ σ ⟨fun c => zge hi (by decide) c, fun _ => ⟨zi_in hi (by decide), fun x1 e1 => ⟨⟨x1, rfl⟩, fun x2 h2 => by
      have := hn () trivial
      rw [fb_sm_succ (fun i => zcnt (σ 22 i)) i, ← nI_1 i, ← Nat.add_assoc, ← nI_add] at this
      rw [h2 x1 rfl, e1, nI_clamp (by omega)]
      exact this⟩⟩⟩)
  have key4 := zup (α := Unit) (N := 12) (H := fun i _ => G 4 [some (.inr 99), some (.inl (nI (fb_sm (fun v => zcnt (σ 21 v)) i))), some (.inl (nI i)), none] [] σ) (I := fun _ _ => True)
    (fun _ _ => X1v_total_4 hG _ _ σ ⟨fun _ => key33 0 () (by omega) trivial, fun c => zle (by decide) c⟩)
    (fun i _ hi _ hn => X1v_total_4 hG _ _ σ ⟨fun c => zge hi (by decide) c, fun _ => ⟨zi_in hi (by decide), fun x1 e1 => ⟨⟨x1, rfl⟩, fun x2 h2 => by
      have := hn () trivial
      rw [fb_sm_succ, ← nI_1, ← nI_add] at this
      rw [h2 x1 rfl, e1, nI_clamp (by omega)]
      exact this⟩⟩⟩)
  exact ⟨Or.inl (Nat.le_of_ble_eq_true rfl), X1v_total_0 hG σ (key4 0 () (by omega) trivial)⟩
theorem MC.fr {Γ : Gam} {σ τ : mS} (h : MC Γ σ) (hk : ∀ k, k < 10 → τ k = σ k) : MC Γ τ := by
  unfold MC
  rw [hk 0 (by decide), hk 1 (by decide), hk 2 (by decide), hk 3 (by decide), hk 4 (by decide), hk 5 (by decide), hk 6 (by decide), hk 7 (by decide), hk 8 (by decide), hk 9 (by decide)]
  exact h
theorem X1d_workOut (G : Nat → mL → List mv → mS → Prop) (Q : Option Int32 → mS → Prop) (vs : List Int32) (σ : mS) (hG : mCl X1g_workOut G Q) (h : X1t_workOut vs σ Q) : (vs.length + 1 ≤ 4 ∨ (true = false ∧ vs.length ≤ 4)) ∧ G 0 (mL0 4 true vs) [] σ := by
  obtain ⟨Γ, ⟨rfl, hM, hkn⟩, h⟩ := h
  have hGB := hM.1
  have key61 := zup (α := mS × Int32) (N := 226) (H := fun k st => G 61 [some (.inr 99), some (.inl st.2), some (.inl (nI (tot st.1))), some (.inl (nI k))] [] st.1)
    (I := fun k st => (∀ k, k ≠ 20 → k ≠ 21 → k ≠ 22 → st.1 k = σ k) ∧ st.1 20 0 = 1 ∧ BelM Γ st.1 ∧ ((nI (tot st.1) = st.2 ∧ SolM Γ st.1) ∨ (¬ nI (tot st.1) = st.2 ∧ k ≤ tot st.1)))
    (fun st ⟨a1, a2, a3, a4⟩ => by
      have hS : SolM Γ st.1 := by
        rcases a4 with a4 | a4
        · exact a4.2
        · have := tot_le st.1
          omega
      exact X1v_workOut_61 hG _ _ _ st.1 ⟨fun _ => h st.1 ⟨a1, a2, hS⟩, fun c => zle (by decide) c⟩)
    (fun k st hk ⟨a1, a2, a3, a4⟩ hn => by
      refine X1v_workOut_61 hG _ _ _ st.1 ⟨fun c => zge hk (by decide) c, fun _ => ⟨fun c => ?_, fun c => ?_⟩⟩
      · rcases a4 with a4 | a4
        · exact h st.1 ⟨a1, a2, a4.2⟩
        · exact absurd c a4.1
      · have a5 : k ≤ tot st.1 := by
          rcases a4 with a4 | a4
          · exact absurd a4.1 c
          · exact a4.2
        refine ⟨Γ, ⟨hM.fr (fun j hj => a1 j (by omega) (by omega) (by omega)), a3, rfl⟩, fun s2 h2 => ⟨rfl, fun x3 h3 => ?_⟩⟩
        obtain ⟨b1, b2, b3, b4⟩ := h2
        have h3 : x3 = nI (tot s2) := h3
        subst h3
        have hmo := tot_mono b3
        have t1 := tot_le s2
        have t2 := tot_le st.1
        have := hn (s2, nI (tot st.1)) ⟨fun j j1 j2 j3 => (b1 j j2 j3).trans (a1 j j1 j2 j3), by show s2 20 0 = 1; rw [b1 20 (by decide) (by decide)]; exact a2, b2, ?_⟩
        · rw [← nI_1] at this
          exact this
        · dsimp only
          by_cases e : tot s2 = tot st.1
          · left
            refine ⟨by rw [e], ?_⟩
            have hg := tot_same b3 (fun x hx s hs => (b2 x hx s hs).lt8 hGB) e
            have hs := b4 hg
            exact fun x hx s => ⟨fun q => (hs x hx s).mp (hg x hx s q), fun q => b3 x hx s ((hs x hx s).mpr q)⟩
          · right
            exact ⟨fun q => e (zn_inj (by omega) (by omega) q), by omega⟩)
  have key36 := zup (α := mS) (N := 16) (H := fun i υ => G 36 [some (.inr 99), some (.inl (nI i)), none, none] [] υ)
    (I := fun i υ => (∀ k, k ≠ 20 → k ≠ 21 → k ≠ 22 → υ k = σ k) ∧ υ 20 0 = 1 ∧ (∀ j, j < 12 → υ 21 j = 0) ∧ ∀ j, j < i → υ 22 j = 0)
    (fun υ ⟨a1, a2, a3, a4⟩ => by
      have hz : ∀ x, x < 28 → pv υ x = 0 := fun x hx => by
        unfold pv
        split
        · rename_i q
          exact a3 x q
        · exact a4 _ (by omega)
      have ht : tot υ = 0 := by
        rw [tot_pv]
        have : fb_sm (fun x => zcnt (pv υ x)) 28 = fb_sm (fun _ => 0) 28 := fb_sm_cong fun k hk => by
          rw [hz k hk]
          decide
        rw [this]
        decide
      refine X1v_workOut_36 hG _ υ ⟨fun _ => ?_, fun c => zle (by decide) c⟩
      have := key61 0 (υ, -1) (by omega) ⟨a1, a2, (show BelM Γ υ from fun x hx s hs => by rw [hz x hx, b_0] at hs; cases hs), Or.inr ⟨by dsimp only; rw [ht]; decide, Nat.zero_le _⟩⟩
      dsimp only at this
      rw [ht] at this
      exact this)
    (fun i υ hi ⟨a1, a2, a3, a4⟩ hn => by
      refine X1v_workOut_36 hG _ υ ⟨fun c => zge hi (by decide) c, fun _ => ⟨zi_in hi (by decide), ?_⟩⟩
      rw [nI_clamp (by omega)]
      have := hn (mU υ 22 i 0) ⟨fun k k1 k2 k3 => by rw [mU_ne k3]; exact a1 k k1 k2 k3, by rw [mU_ne (by decide)]; exact a2, fun j hj => by rw [mU_ne (by decide)]; exact a3 j hj, fun j hj => by
        by_cases q : j = i
        · rw [q, mU_s]
        · rw [mU_o (Or.inr q)]
          exact a4 j (by omega)⟩
      rw [← nI_1] at this
      exact this)
  have key15 := zup (α := mS) (N := 12) (H := fun i υ => G 15 [some (.inr 99), some (.inl (nI i)), none, none] [] υ)
    (I := fun i υ => (∀ k, k ≠ 20 → k ≠ 21 → k ≠ 22 → υ k = σ k) ∧ υ 20 0 = 1 ∧ ∀ j, j < i → υ 21 j = 0)
    (fun υ ⟨a1, a2, a3⟩ => X1v_workOut_15 hG _ υ ⟨fun _ => key36 0 υ (by omega) ⟨a1, a2, a3, fun j hj => absurd hj (Nat.not_lt_zero j)⟩, fun c => zle (by decide) c⟩)
    (fun i υ hi ⟨a1, a2, a3⟩ hn => by
      refine X1v_workOut_15 hG _ υ ⟨fun c => zge hi (by decide) c, fun _ => ⟨zi_in hi (by decide), ?_⟩⟩
      rw [nI_clamp (by omega)]
      have := hn (mU υ 21 i 0) ⟨fun k k1 k2 k3 => by rw [mU_ne k2]; exact a1 k k1 k2 k3, by rw [mU_ne (by decide)]; exact a2, fun j hj => by
        by_cases q : j = i
        · rw [q, mU_s]
        · rw [mU_o (Or.inr q)]
          exact a3 j (by omega)⟩
      rw [← nI_1] at this
      exact this)
  refine ⟨Or.inl (Nat.le_of_ble_eq_true rfl), X1v_workOut_0 hG σ ⟨fun c => ⟨Or.inr rfl, ?_⟩, fun c => ?_⟩⟩
  · exact key15 0 (mU σ 20 0 1) (by omega) ⟨fun k k1 _ _ => mU_ne k1, mU_s, fun j hj => absurd hj (Nat.not_lt_zero j)⟩
  · rcases hkn with e | ⟨e, hS⟩
    · exact absurd e c
    · exact h σ ⟨fun _ _ _ _ => rfl, e, hS⟩
end
section
/-! the model's public methods on constraints: alloc, copy, load, store -/
set_option maxRecDepth 100000
theorem zb_or1 (x : Int32) {j : Nat} (hj : j < 32) (s : Nat) : bt (x ||| ((1 : Int32) <<< (nI j &&& 31))) s = true ↔ (bt x s = true ∨ s = j) := by
  rw [b_or, Bool.or_eq_true]
  refine or_congr Iff.rfl ⟨fun h => ?_, fun h => ?_⟩
  · have := zb_lt h
    rw [zb_one hj this] at h
    exact of_decide_eq_true h
  · rw [zb_one hj (by omega)]
    exact decide_eq_true h
/-- what isn't of the constraints stays -/
theorem RepM.next {A : AS} {σ τ : mS} {Γ' : Gam} (h : RepM A σ) (hk : ∀ k, 10 ≤ k → k < 20 → τ k = σ k) (hM : MC Γ' τ) (hkn : τ 20 0 = 0 ∨ (τ 20 0 = 1 ∧ SolM Γ' τ)) : RepM (Γ', A.2) τ := by
  obtain ⟨⟨-, -, -, a1, a2, a3, a4⟩, -, h1, h2, h3, -⟩ := h
  refine ⟨⟨hM.1, hM.2.2.2.1.2.1, hM.2.2.2.2.2.1, a1, a2, a3, a4⟩, hM, fun s hs => ?_, ⟨?_, fun r hr => ?_⟩, ⟨?_, fun i hi => ?_⟩, hkn⟩
  · rw [hk 10 (by decide) (by decide)]; exact h1 s hs
  · rw [hk 11 (by decide) (by decide)]; exact h2.1
  · rw [hk 12 (by decide) (by decide), hk 13 (by decide) (by decide), hk 14 (by decide) (by decide)]; exact h2.2 r hr
  · rw [hk 15 (by decide) (by decide)]; exact h3.1
  · rw [hk 16 (by decide) (by decide), hk 17 (by decide) (by decide), hk 18 (by decide) (by decide), hk 19 (by decide) (by decide)]; exact h3.2 i hi
theorem RepM.work {A : AS} {σ τ : mS} (h : RepM A σ) (hk : ∀ k, k ≠ 20 → k ≠ 21 → k ≠ 22 → τ k = σ k) (h1 : τ 20 0 = 1) (hS : SolM A.1 τ) : RepM A τ :=
  h.next (fun k k1 k2 => hk k (by omega) (by omega) (by omega)) (h.2.1.fr (fun k hk10 => hk k (by omega) (by omega) (by omega))) (Or.inr ⟨h1, hS⟩)
theorem RepM.pre {A : AS} {σ : mS} (h : RepM A σ) : X1p_workOut A.1 [] σ := ⟨rfl, h.2.1, h.2.2.2.2.2⟩
theorem SolM.lo {Γ : Gam} {σ : mS} (h : SolM Γ σ) {x : Nat} (hx : x < 12) : σ 21 x = msk Γ x := by
  rw [← pv_lo (σ := σ) hx]
  exact (h x (by omega)).eq
theorem SolM.fn {Γ : Gam} {σ : mS} (h : SolM Γ σ) {s f : Nat} (hs : s < 8) (hf : f < 2) : σ 22 (s * 2 + f) = msk Γ (fnode s f) := by
  rw [← pv_fn (σ := σ)]
  exact (h _ (fnode_lt hs hf)).eq
theorem X1d_alloc (G : Nat → mL → List mv → mS → Prop) (Q : Option Int32 → mS → Prop) (vs : List Int32) (σ : mS) (hG : mCl X1g_alloc G Q) (h : X1t_alloc vs σ Q) : (vs.length + 1 ≤ 3 ∨ (true = false ∧ vs.length ≤ 3)) ∧ G 0 (mL0 3 true vs) [] σ := by
  obtain ⟨A, ⟨hA, v, s, rfl⟩, h⟩ := h
  have hq : ∀ r τ, r = (opAlloc A v s).1 → RepM (opAlloc A v s).2 τ → Q (some r) τ := fun r τ h1 h2 => h r τ fun v' s' e => by cases e; exact ⟨h1, h2⟩
  unfold opAlloc at hq
  refine ⟨Or.inl (Nat.le_refl 3), X1v_alloc_0 hG v s σ ⟨⟨v, rfl⟩, fun x1 h1 => ⟨fun c => ?_, fun c => ⟨fun d => ?_, fun d => ⟨fun e => ?_, fun e => ?_⟩⟩⟩⟩⟩
  · have hb : bdN 12 v := r1_of (h1 v rfl) c
    rw [if_pos (Or.inl hb)] at hq
    exact hq _ σ rfl hA
  · rw [if_pos (Or.inr (Or.inl d))] at hq
    exact hq _ σ rfl hA
  · obtain ⟨i, hi, rfl⟩ := r0_of (h1 v rfl) c
    obtain ⟨j, hj, rfl⟩ := zn_leN (N := 7) (by decide) d e
    rw [if_neg (fun q => q.elim (bd_no hi (by decide)) (bd_no hj (by decide))), nv_ix (by omega), nv_ix (by omega)] at hq
    have ci : (nI i).toNatClampNeg = i := nI_clamp (by omega)
    have hi12 := zi_in hi (show 12 < 2 ^ 31 by decide)
    rw [ci]
    refine ⟨hi12, fun x2 e2 => ⟨hi12, Or.inl rfl, ?_⟩⟩
    subst e2
    have hM := hA.2.1
    have hM1 : MC (gAl A.1 i j) (mU (mU σ 0 i (σ 0 i ||| ((1 : Int32) <<< (nI j &&& 31)))) 20 0 0) := by
      obtain ⟨m1, m2, m3, m4, m5⟩ := hM
      refine ⟨m1.al hi hj, fun v hv s => ?_, fun v hv w => ?_, ⟨?_, m4.2.1, fun n p hp => ?_⟩, ?_, m5.2.1, fun n p hp => ?_⟩
      · rw [mU_ne (by decide)]
        by_cases e : v = i
        · subst e
          rw [mU_s, zb_or1 _ (by omega), m2 v hv s]
          show _ ↔ (A.1.1 v s ∨ (v = v ∧ s = j))
          simp
        · rw [mU_o (Or.inr e), m2 v hv s]
          show _ ↔ (A.1.1 v s ∨ (v = i ∧ s = j))
          simp [e]
      · rw [mU_ne (by decide), mU_ne (by decide)]
        exact m3 v hv w
      · rw [mU_ne (by decide), mU_ne (by decide)]
        exact m4.1
      · rw [mU_ne (by decide), mU_ne (by decide), mU_ne (by decide), mU_ne (by decide), mU_ne (by decide), mU_ne (by decide)]
        exact m4.2.2 n p hp
      · rw [mU_ne (by decide), mU_ne (by decide)]
        exact m5.1
      · rw [mU_ne (by decide), mU_ne (by decide), mU_ne (by decide), mU_ne (by decide), mU_ne (by decide), mU_ne (by decide)]
        exact m5.2.2 n p hp
    refine ⟨gAl A.1 i j, ⟨rfl, hM1, Or.inl mU_s⟩, fun s4 h4 => ⟨hi12, fun x5 e5 => ⟨⟨x5, rfl⟩, fun x6 h6 => hq x6 s4 ?_ ?_⟩⟩⟩
    · rw [h6 x5 rfl, e5, h4.2.2.lo hi]
    · refine hA.next (fun k k1 k2 => ?_) (hM1.fr (fun k hk => h4.1 k (by omega) (by omega) (by omega))) (Or.inr h4.2)
      rw [h4.1 k (by omega) (by omega) (by omega), mU_ne (by omega), mU_ne (by omega)]
  · rw [if_pos (Or.inr (Or.inr (zn_gtN (N := 7) (by decide) e)))] at hq
    exact hq _ σ rfl hA
theorem X1d_copy (G : Nat → mL → List mv → mS → Prop) (Q : Option Int32 → mS → Prop) (vs : List Int32) (σ : mS) (hG : mCl X1g_copy G Q) (h : X1t_copy vs σ Q) : (vs.length + 1 ≤ 3 ∨ (true = false ∧ vs.length ≤ 3)) ∧ G 0 (mL0 3 true vs) [] σ := by
  obtain ⟨A, ⟨hA, v, w, rfl⟩, h⟩ := h
  have hq : ∀ r τ, r = (opCopy A v w).1 → RepM (opCopy A v w).2 τ → Q (some r) τ := fun r τ h1 h2 => h r τ fun v' s' e => by cases e; exact ⟨h1, h2⟩
  unfold opCopy at hq
  refine ⟨Or.inl (Nat.le_refl 3), X1v_copy_0 hG v w σ ⟨⟨v, rfl⟩, fun x1 h1 => ⟨fun c => ?_, fun c => ⟨⟨w, rfl⟩, fun x2 h2 => ⟨fun d => ?_, fun d => ?_⟩⟩⟩⟩⟩
  · have hb : bdN 12 v := r1_of (h1 v rfl) c
    rw [if_pos (Or.inl hb)] at hq
    exact hq _ σ rfl hA
  · obtain ⟨i, hi, rfl⟩ := r0_of (h1 v rfl) c
    obtain ⟨j, hj, rfl⟩ := r0_of (h2 w rfl) d
    rw [if_neg (fun q => q.elim (bd_no hi (by decide)) (bd_no hj (by decide))), nv_ix (by omega), nv_ix (by omega)] at hq
    have ci : (nI i).toNatClampNeg = i := nI_clamp (by omega)
    have hi12 := zi_in hi (show 12 < 2 ^ 31 by decide)
    rw [ci]
    refine ⟨hi12, fun x3 e3 => ⟨hi12, Or.inl rfl, ?_⟩⟩
    subst e3
    have hM := hA.2.1
    have hM1 : MC (gCp A.1 i j) (mU (mU σ 1 i (σ 1 i ||| ((1 : Int32) <<< (nI j &&& 31)))) 20 0 0) := by
      obtain ⟨m1, m2, m3, m4, m5⟩ := hM
      refine ⟨m1.cp hi hj, fun v hv s => ?_, fun v hv w => ?_, ⟨?_, m4.2.1, fun n p hp => ?_⟩, ?_, m5.2.1, fun n p hp => ?_⟩
      · rw [mU_ne (by decide), mU_ne (by decide)]
        exact m2 v hv s
      · rw [mU_ne (by decide)]
        by_cases e : v = i
        · subst e
          rw [mU_s, zb_or1 _ (by omega), m3 v hv w]
          show _ ↔ (A.1.2.1 v w ∨ (v = v ∧ w = j))
          simp
        · rw [mU_o (Or.inr e), m3 v hv w]
          show _ ↔ (A.1.2.1 v w ∨ (v = i ∧ w = j))
          simp [e]
      · rw [mU_ne (by decide), mU_ne (by decide)]
        exact m4.1
      · rw [mU_ne (by decide), mU_ne (by decide), mU_ne (by decide), mU_ne (by decide), mU_ne (by decide), mU_ne (by decide)]
        exact m4.2.2 n p hp
      · rw [mU_ne (by decide), mU_ne (by decide)]
        exact m5.1
      · rw [mU_ne (by decide), mU_ne (by decide), mU_ne (by decide), mU_ne (by decide), mU_ne (by decide), mU_ne (by decide)]
        exact m5.2.2 n p hp
    refine ⟨gCp A.1 i j, ⟨rfl, hM1, Or.inl mU_s⟩, fun s4 h4 => ⟨hi12, fun x5 e5 => ⟨⟨x5, rfl⟩, fun x6 h6 => hq x6 s4 ?_ ?_⟩⟩⟩
    · rw [h6 x5 rfl, e5, h4.2.2.lo hi]
    · refine hA.next (fun k k1 k2 => ?_) (hM1.fr (fun k hk => h4.1 k (by omega) (by omega) (by omega))) (Or.inr h4.2)
      rw [h4.1 k (by omega) (by omega) (by omega), mU_ne (by omega), mU_ne (by omega)]
  · have hb : bdN 12 w := r1_of (h2 w rfl) d
    rw [if_pos (Or.inr hb)] at hq
    exact hq _ σ rfl hA
theorem X1d_load (G : Nat → mL → List mv → mS → Prop) (Q : Option Int32 → mS → Prop) (vs : List Int32) (σ : mS) (hG : mCl X1g_load G Q) (h : X1t_load vs σ Q) : (vs.length + 1 ≤ 4 ∨ (true = false ∧ vs.length ≤ 4)) ∧ G 0 (mL0 4 true vs) [] σ := by
  obtain ⟨A, ⟨hA, v, w, f, rfl⟩, h⟩ := h
  have hq : ∀ r τ, r = (opLoad A v w f).1 → RepM (opLoad A v w f).2 τ → Q (some r) τ := fun r τ h1 h2 => h r τ fun v' s' f' e => by cases e; exact ⟨h1, h2⟩
  unfold opLoad at hq
  refine ⟨Or.inl (Nat.le_refl 4), X1v_load_0 hG v w f σ ⟨⟨v, rfl⟩, fun x1 h1 => ⟨fun c => ?_, fun c => ⟨⟨w, rfl⟩, fun x2 h2 => ⟨fun d => ?_, fun d => ⟨⟨f, rfl⟩, fun x3 h3 => ⟨fun g => ?_, fun g => ?_⟩⟩⟩⟩⟩⟩⟩
  · have hb : bdN 12 v := r1_of (h1 v rfl) c
    rw [if_pos (Or.inl hb)] at hq
    exact hq _ σ rfl hA
  · have hb : bdN 12 w := r1_of (h2 w rfl) d
    rw [if_pos (Or.inr (Or.inl hb))] at hq
    exact hq _ σ rfl hA
  · obtain ⟨i, hi, rfl⟩ := r0_of (h1 v rfl) c
    obtain ⟨j, hj, rfl⟩ := r0_of (h2 w rfl) d
    obtain ⟨k, hk, rfl⟩ := r0_of (h3 f rfl) g
    rw [if_neg (fun q => q.elim (bd_no hi (by decide)) (fun q => q.elim (bd_no hj (by decide)) (bd_no hk (by decide)))), nv_ix (by omega), nv_ix (by omega), nv_ix (by omega)] at hq
    obtain ⟨m1, m2, m3, ⟨L1, L2, L3⟩, m5⟩ := hA.2.1
    rw [L1]
    refine ⟨fun a => ?_, fun a => ?_⟩
    · have hlen : A.1.2.2.1.length < 20 := by
        rcases Nat.lt_or_ge A.1.2.2.1.length 20 with z | z
        · exact z
        · have e : A.1.2.2.1.length = 20 := by omega
          rw [e] at a
          exact absurd rfl a
      rw [if_neg (by omega)] at hq
      rw [nI_clamp (n := A.1.2.2.1.length) (by omega), nI_1]
      have hin := zi_in hlen (show 20 < 2 ^ 31 by decide)
      refine ⟨hin, hin, hin, Or.inl rfl, ?_⟩
      generalize hσ1 : mU (mU (mU (mU (mU σ 3 A.1.2.2.1.length (nI i)) 4 A.1.2.2.1.length (nI j)) 5 A.1.2.2.1.length (nI k)) 2 0 (nI (A.1.2.2.1.length + 1))) 20 0 0 = σ1
      have h6 : ∀ k, k ≠ 2 → k ≠ 3 → k ≠ 4 → k ≠ 5 → k ≠ 20 → σ1 k = σ k := fun k k1 k2 k3 k4 k5 => by rw [← hσ1, mU_ne k5, mU_ne k1, mU_ne k4, mU_ne k3, mU_ne k2]
      have hM1 : MC (gLd A.1 i j k) σ1 := by
        refine ⟨m1.ld hi hj hk, fun v hv s => ?_, fun v hv w => ?_, ⟨?_, ?_, fun n p hp => ?_⟩, ?_, m5.2.1, fun n p hp => ?_⟩
        · rw [h6 0 (by decide) (by decide) (by decide) (by decide) (by decide)]
          exact m2 v hv s
        · rw [h6 1 (by decide) (by decide) (by decide) (by decide) (by decide)]
          exact m3 v hv w
        · rw [← hσ1, mU_ne (by decide), mU_s]
          show nI (A.1.2.2.1.length + 1) = nI (A.1.2.2.1 ++ [(i, j, k)]).length
          rw [List.length_append, List.length_singleton]
        · show (A.1.2.2.1 ++ [(i, j, k)]).length ≤ 20
          rw [List.length_append, List.length_singleton]
          omega
        · have hp : (A.1.2.2.1 ++ [(i, j, k)])[n]? = some p := hp
          rcases Nat.lt_or_ge n A.1.2.2.1.length with hn | hn
          · rw [List.getElem?_append_left hn] at hp
            obtain ⟨z1, z2, z3⟩ := L3 n p hp
            rw [← hσ1]
            refine ⟨?_, ?_, ?_⟩
            · rw [mU_ne (by decide), mU_ne (by decide), mU_ne (by decide), mU_ne (by decide), mU_o (Or.inr (by omega))]; exact z1
            · rw [mU_ne (by decide), mU_ne (by decide), mU_ne (by decide), mU_o (Or.inr (by omega)), mU_ne (by decide)]; exact z2
            · rw [mU_ne (by decide), mU_ne (by decide), mU_o (Or.inr (by omega)), mU_ne (by decide), mU_ne (by decide)]; exact z3
          · rw [List.getElem?_append_right hn] at hp
            have hz : n - A.1.2.2.1.length < 1 := (List.getElem?_eq_some_iff.mp hp).1
            have hn2 : n = A.1.2.2.1.length := by omega
            subst hn2
            rw [Nat.sub_self] at hp
            cases hp
            rw [← hσ1]
            refine ⟨?_, ?_, ?_⟩
            · rw [mU_ne (by decide), mU_ne (by decide), mU_ne (by decide), mU_ne (by decide), mU_s]
            · rw [mU_ne (by decide), mU_ne (by decide), mU_ne (by decide), mU_s]
            · rw [mU_ne (by decide), mU_ne (by decide), mU_s]
        · rw [h6 6 (by decide) (by decide) (by decide) (by decide) (by decide)]
          exact m5.1
        · rw [h6 7 (by decide) (by decide) (by decide) (by decide) (by decide), h6 8 (by decide) (by decide) (by decide) (by decide) (by decide), h6 9 (by decide) (by decide) (by decide) (by decide) (by decide)]
          exact m5.2.2 n p hp
      have hi12 := zi_in hi (show 12 < 2 ^ 31 by decide)
      have h20 : σ1 20 0 = 0 := by rw [← hσ1, mU_s]
      refine ⟨gLd A.1 i j k, ⟨rfl, hM1, Or.inl h20⟩, fun s4 h4 => ⟨hi12, fun x5 e5 => ⟨⟨x5, rfl⟩, fun x6 h6' => hq x6 s4 ?_ ?_⟩⟩⟩
      · rw [h6' x5 rfl, e5, nI_clamp (by omega), h4.2.2.lo hi]
      · refine hA.next (fun k k1 k2 => ?_) (hM1.fr (fun k hk => h4.1 k (by omega) (by omega) (by omega))) (Or.inr h4.2)
        rw [h4.1 k (by omega) (by omega) (by omega), h6 k (by omega) (by omega) (by omega) (by omega) (by omega)]
    · have hlen : 20 ≤ A.1.2.2.1.length := by
        have := zn_inj (a := A.1.2.2.1.length) (b := 20) (by omega) (by omega) a
        omega
      rw [if_pos hlen] at hq
      exact hq _ σ rfl hA
  · have hb : bdN 2 f := r1_of (h3 f rfl) g
    rw [if_pos (Or.inr (Or.inr hb))] at hq
    exact hq _ σ rfl hA
theorem X1d_store (G : Nat → mL → List mv → mS → Prop) (Q : Option Int32 → mS → Prop) (vs : List Int32) (σ : mS) (hG : mCl X1g_store G Q) (h : X1t_store vs σ Q) : (vs.length + 1 ≤ 4 ∨ (true = false ∧ vs.length ≤ 4)) ∧ G 0 (mL0 4 true vs) [] σ := by
  obtain ⟨A, ⟨hA, v, f, w, rfl⟩, h⟩ := h
  have hq : ∀ r τ, r = (opStore A v f w).1 → RepM (opStore A v f w).2 τ → Q (some r) τ := fun r τ h1 h2 => h r τ fun v' s' f' e => by cases e; exact ⟨h1, h2⟩
  unfold opStore at hq
  refine ⟨Or.inl (Nat.le_refl 4), X1v_store_0 hG v f w σ ⟨⟨v, rfl⟩, fun x1 h1 => ⟨fun c => ?_, fun c => ⟨⟨w, rfl⟩, fun x2 h2 => ⟨fun d => ?_, fun d => ⟨⟨f, rfl⟩, fun x3 h3 => ⟨fun g => ?_, fun g => ?_⟩⟩⟩⟩⟩⟩⟩
  · have hb : bdN 12 v := r1_of (h1 v rfl) c
    rw [if_pos (Or.inl hb)] at hq
    exact hq _ σ rfl hA
  · have hb : bdN 12 w := r1_of (h2 w rfl) d
    rw [if_pos (Or.inr (Or.inl hb))] at hq
    exact hq _ σ rfl hA
  · obtain ⟨i, hi, rfl⟩ := r0_of (h1 v rfl) c
    obtain ⟨j, hj, rfl⟩ := r0_of (h2 w rfl) d
    obtain ⟨k, hk, rfl⟩ := r0_of (h3 f rfl) g
    rw [if_neg (fun q => q.elim (bd_no hi (by decide)) (fun q => q.elim (bd_no hj (by decide)) (bd_no hk (by decide)))), nv_ix (by omega), nv_ix (by omega), nv_ix (by omega)] at hq
    obtain ⟨m1, m2, m3, m4, L1, L2, L3⟩ := hA.2.1
    rw [L1]
    refine ⟨fun a => ?_, fun a => ?_⟩
    · have hlen : A.1.2.2.2.length < 20 := by
        rcases Nat.lt_or_ge A.1.2.2.2.length 20 with z | z
        · exact z
        · have e : A.1.2.2.2.length = 20 := by omega
          rw [e] at a
          exact absurd rfl a
      rw [if_neg (by omega)] at hq
      rw [nI_clamp (n := A.1.2.2.2.length) (by omega), nI_1]
      have hin := zi_in hlen (show 20 < 2 ^ 31 by decide)
      refine ⟨hin, hin, hin, Or.inl rfl, ?_⟩
      generalize hσ1 : mU (mU (mU (mU (mU σ 7 A.1.2.2.2.length (nI i)) 8 A.1.2.2.2.length (nI j)) 9 A.1.2.2.2.length (nI k)) 6 0 (nI (A.1.2.2.2.length + 1))) 20 0 0 = σ1
      have h6 : ∀ k, k ≠ 6 → k ≠ 7 → k ≠ 8 → k ≠ 9 → k ≠ 20 → σ1 k = σ k := fun k k1 k2 k3 k4 k5 => by rw [← hσ1, mU_ne k5, mU_ne k1, mU_ne k4, mU_ne k3, mU_ne k2]
      have hM1 : MC (gSt A.1 i k j) σ1 := by
        refine ⟨m1.st hi hk hj, fun v hv s => ?_, fun v hv w => ?_, ⟨?_, m4.2.1, fun n p hp => ?_⟩, ?_, ?_, fun n p hp => ?_⟩
        · rw [h6 0 (by decide) (by decide) (by decide) (by decide) (by decide)]
          exact m2 v hv s
        · rw [h6 1 (by decide) (by decide) (by decide) (by decide) (by decide)]
          exact m3 v hv w
        · rw [h6 2 (by decide) (by decide) (by decide) (by decide) (by decide)]
          exact m4.1
        · rw [h6 3 (by decide) (by decide) (by decide) (by decide) (by decide), h6 4 (by decide) (by decide) (by decide) (by decide) (by decide), h6 5 (by decide) (by decide) (by decide) (by decide) (by decide)]
          exact m4.2.2 n p hp
        · rw [← hσ1, mU_ne (by decide), mU_s]
          show nI (A.1.2.2.2.length + 1) = nI (A.1.2.2.2 ++ [(i, k, j)]).length
          rw [List.length_append, List.length_singleton]
        · show (A.1.2.2.2 ++ [(i, k, j)]).length ≤ 20
          rw [List.length_append, List.length_singleton]
          omega
        · have hp : (A.1.2.2.2 ++ [(i, k, j)])[n]? = some p := hp
          rcases Nat.lt_or_ge n A.1.2.2.2.length with hn | hn
          · rw [List.getElem?_append_left hn] at hp
            obtain ⟨z1, z2, z3⟩ := L3 n p hp
            rw [← hσ1]
            refine ⟨?_, ?_, ?_⟩
            · rw [mU_ne (by decide), mU_ne (by decide), mU_ne (by decide), mU_ne (by decide), mU_o (Or.inr (by omega))]; exact z1
            · rw [mU_ne (by decide), mU_ne (by decide), mU_ne (by decide), mU_o (Or.inr (by omega)), mU_ne (by decide)]; exact z2
            · rw [mU_ne (by decide), mU_ne (by decide), mU_o (Or.inr (by omega)), mU_ne (by decide), mU_ne (by decide)]; exact z3
          · rw [List.getElem?_append_right hn] at hp
            have hz : n - A.1.2.2.2.length < 1 := (List.getElem?_eq_some_iff.mp hp).1
            have hn2 : n = A.1.2.2.2.length := by omega
            subst hn2
            rw [Nat.sub_self] at hp
            cases hp
            rw [← hσ1]
            refine ⟨?_, ?_, ?_⟩
            · rw [mU_ne (by decide), mU_ne (by decide), mU_ne (by decide), mU_ne (by decide), mU_s]
            · rw [mU_ne (by decide), mU_ne (by decide), mU_ne (by decide), mU_s]
            · rw [mU_ne (by decide), mU_ne (by decide), mU_s]
      have h20 : σ1 20 0 = 0 := by rw [← hσ1, mU_s]
      exact hq 0 σ1 rfl (hA.next (fun k k1 k2 => h6 k (by omega) (by omega) (by omega) (by omega) (by omega)) hM1 (Or.inl h20))
    · have hlen : 20 ≤ A.1.2.2.2.length := by
        have := zn_inj (a := A.1.2.2.2.length) (b := 20) (by omega) (by omega) a
        omega
      rw [if_pos hlen] at hq
      exact hq _ σ rfl hA
  · have hb : bdN 2 f := r1_of (h3 f rfl) g
    rw [if_pos (Or.inr (Or.inr hb))] at hq
    exact hq _ σ rfl hA
end
section
/-! printed by gen/run.py: programs and verification conditions -/
set_option maxRecDepth 100000
def X1t_once : mT := mGi X1p_once X1q_once
def X1t_region : mT := mGi X1p_region X1q_region
def X1t_badPlace : mT := mTp X1p_badPlace X1q_badPlace
def X1t_access : mT := mGi X1p_access X1q_access
def X1t_pointsTo : mT := mGi X1p_pointsTo X1q_pointsTo
def X1t_holds : mT := mGi X1p_holds X1q_holds
def X1t_threadAt : mT := mGp X1p_threadAt X1q_threadAt
def X1t_held : mT := mGi X1p_held X1q_held
def X1t_race : mT := mGi X1p_race X1q_race
def X1t_races : mT := mGi X1p_races X1q_races
def X1g_once : mP := (X1b_once, flX1, fdX1, some .int, [], [])
theorem X1v_once_0 {G : Nat → mL → List mv → mS → Prop} {Q : Option Int32 → mS → Prop} (hG : mCl X1g_once G Q) (v1 v2 : Int32) (σ : mS)
    (h : ((v1 < (0 : Int32) → Q (some (-1)) σ) ∧ (¬ v1 < (0 : Int32) → ((v1 ≤ (7 : Int32) → (vp_in v1 8 ∧ ∀ x1 : Int32, x1 = σ 10 v1.toNatClampNeg → ((x1 = (0 : Int32) → (vp_in v1 8 ∧ Q (some 0) (mU σ 10 v1.toNatClampNeg (v2 &&& 1)))) ∧ (¬ x1 = (0 : Int32) → (vp_in v1 8 ∧ Q (some 1) (mU σ 10 v1.toNatClampNeg (v2 &&& 1))))))) ∧ (¬ v1 ≤ (7 : Int32) → Q (some (-1)) σ))))) : G 0 [some (.inr 99), some (.inl v1), some (.inl v2), none] [] σ := hG 20 0 _ _ _ h
def X1g_region : mP := (X1b_region, flX1, fdX1, some .int, [(93, 1, true, X1t_badV)], [])
theorem X1v_region_0 {G : Nat → mL → List mv → mS → Prop} {Q : Option Int32 → mS → Prop} (hG : mCl X1g_region G Q) (v1 v2 v3 : Int32) (σ : mS)
    (h : ((v1 < (0 : Int32) → Q (some (-1)) σ) ∧ (¬ v1 < (0 : Int32) → (((3 : Int32) < v1 → Q (some (-1)) σ) ∧ (¬ (3 : Int32) < v1 → (X1p_badV [v2] σ ∧ ∀ x1 : Int32, X1q_badV [v2] σ x1 → ((¬ x1 = (0 : Int32) → Q (some (-1)) σ) ∧ (x1 = (0 : Int32) → ((v3 < ((-1) : Int32) → Q (some (-1)) σ) ∧ (¬ v3 < ((-1) : Int32) → ((v3 < (σ 11 0) → ((v3 < (0 : Int32) → ((¬ (σ 11 0) = (12 : Int32) → (vp_in (σ 11 0) 12 ∧ (vp_in (σ 11 0) 12 ∧ (vp_in (σ 11 0) 12 ∧ Q (some (((mU (mU (mU (mU σ 12 (σ 11 0).toNatClampNeg v1) 13 (σ 11 0).toNatClampNeg v2) 14 (σ 11 0).toNatClampNeg v3) 11 0 ((σ 11 0) + 1)) 11 0) - 1)) (mU (mU (mU (mU σ 12 (σ 11 0).toNatClampNeg v1) 13 (σ 11 0).toNatClampNeg v2) 14 (σ 11 0).toNatClampNeg v3) 11 0 ((σ 11 0) + 1)))))) ∧ ((σ 11 0) = (12 : Int32) → Q (some (-2)) σ))) ∧ (¬ v3 < (0 : Int32) → (vp_in v3 12 ∧ ∀ x2 : Int32, x2 = σ 12 v3.toNatClampNeg → ((x2 = v1 → ((¬ (σ 11 0) = (12 : Int32) → (vp_in (σ 11 0) 12 ∧ (vp_in (σ 11 0) 12 ∧ (vp_in (σ 11 0) 12 ∧ Q (some (((mU (mU (mU (mU σ 12 (σ 11 0).toNatClampNeg v1) 13 (σ 11 0).toNatClampNeg v2) 14 (σ 11 0).toNatClampNeg v3) 11 0 ((σ 11 0) + 1)) 11 0) - 1)) (mU (mU (mU (mU σ 12 (σ 11 0).toNatClampNeg v1) 13 (σ 11 0).toNatClampNeg v2) 14 (σ 11 0).toNatClampNeg v3) 11 0 ((σ 11 0) + 1)))))) ∧ ((σ 11 0) = (12 : Int32) → Q (some (-2)) σ))) ∧ (¬ x2 = v1 → Q (some (-1)) σ)))))) ∧ (¬ v3 < (σ 11 0) → Q (some (-1)) σ)))))))))))) : G 0 [some (.inr 99), some (.inl v1), some (.inl v2), some (.inl v3)] [] σ := hG 57 0 _ _ _ h
def X1g_badPlace : mP := (X1b_badPlace, flX1, fdX1, some .boolean, [], [])
theorem X1v_badPlace_0 {G : Nat → mL → List mv → mS → Prop} {Q : Option Int32 → mS → Prop} (hG : mCl X1g_badPlace G Q) (v1 : Int32) (σ : mS)
    (h : ((v1 < (0 : Int32) → (((1 : Int32) = 0 ∨ (1 : Int32) = 1) ∧ Q (some 1) σ)) ∧ (¬ v1 < (0 : Int32) → ((v1 < (4 + (σ 11 0)) → (((0 : Int32) = 0 ∨ (0 : Int32) = 1) ∧ Q (some 0) σ)) ∧ (¬ v1 < (4 + (σ 11 0)) → (((1 : Int32) = 0 ∨ (1 : Int32) = 1) ∧ Q (some 1) σ)))))) : G 0 [some (.inr 99), some (.inl v1)] [] σ := hG 11 0 _ _ _ h
def X1g_access : mP := (X1b_access, flX1, fdX1, some .int, [(106, 1, true, X1t_badPlace), (93, 1, true, X1t_badV), (100, 1, true, X1t_badF)], [])
theorem X1v_access_0 {G : Nat → mL → List mv → mS → Prop} {Q : Option Int32 → mS → Prop} (hG : mCl X1g_access G Q) (v1 v2 v3 v4 : Int32) (σ : mS)
    (h : (X1p_badPlace [v1] σ ∧ ∀ x1 : Int32, X1q_badPlace [v1] σ x1 → ((¬ x1 = (0 : Int32) → Q (some (-1)) σ) ∧ (x1 = (0 : Int32) → (X1p_badV [v2] σ ∧ ∀ x2 : Int32, X1q_badV [v2] σ x2 → ((¬ x2 = (0 : Int32) → Q (some (-1)) σ) ∧ (x2 = (0 : Int32) → (X1p_badF [v3] σ ∧ ∀ x3 : Int32, X1q_badF [v3] σ x3 → ((x3 = (0 : Int32) → ((¬ (σ 15 0) = (16 : Int32) → (vp_in (σ 15 0) 16 ∧ (vp_in (σ 15 0) 16 ∧ (vp_in (σ 15 0) 16 ∧ (vp_in (σ 15 0) 16 ∧ Q (some (((mU (mU (mU (mU (mU σ 16 (σ 15 0).toNatClampNeg v1) 17 (σ 15 0).toNatClampNeg v2) 18 (σ 15 0).toNatClampNeg v3) 19 (σ 15 0).toNatClampNeg (v4 &&& 1)) 15 0 ((σ 15 0) + 1)) 15 0) - 1)) (mU (mU (mU (mU (mU σ 16 (σ 15 0).toNatClampNeg v1) 17 (σ 15 0).toNatClampNeg v2) 18 (σ 15 0).toNatClampNeg v3) 19 (σ 15 0).toNatClampNeg (v4 &&& 1)) 15 0 ((σ 15 0) + 1))))))) ∧ ((σ 15 0) = (16 : Int32) → Q (some (-2)) σ))) ∧ (¬ x3 = (0 : Int32) → Q (some (-1)) σ)))))))))) : G 0 [some (.inr 99), some (.inl v1), some (.inl v2), some (.inl v3), some (.inl v4)] [] σ := hG 51 0 _ _ _ h
def X1g_pointsTo : mP := (X1b_pointsTo, flX1, fdX1, some .int, [(93, 1, true, X1t_badV), (97, 0, true, X1t_workOut)], [])
theorem X1v_pointsTo_0 {G : Nat → mL → List mv → mS → Prop} {Q : Option Int32 → mS → Prop} (hG : mCl X1g_pointsTo G Q) (v1 : Int32) (σ : mS)
    (h : (X1p_badV [v1] σ ∧ ∀ x1 : Int32, X1q_badV [v1] σ x1 → ((x1 = (0 : Int32) → (∃ g2 : Gam, X1p_workOut g2 [] σ ∧ ∀ s3 : mS, X1q_workOut g2 [] σ s3 → (vp_in v1 12 ∧ ∀ x4 : Int32, x4 = s3 21 v1.toNatClampNeg → Q (some x4) s3))) ∧ (¬ x1 = (0 : Int32) → Q (some (-1)) σ)))) : G 0 [some (.inr 99), some (.inl v1)] [] σ := hG 11 0 _ _ _ h
def X1g_holds : mP := (X1b_holds, flX1, fdX1, some .int, [(100, 1, true, X1t_badF), (97, 0, true, X1t_workOut)], [])
theorem X1v_holds_0 {G : Nat → mL → List mv → mS → Prop} {Q : Option Int32 → mS → Prop} (hG : mCl X1g_holds G Q) (v1 v2 : Int32) (σ : mS)
    (h : ((v1 < (0 : Int32) → Q (some (-1)) σ) ∧ (¬ v1 < (0 : Int32) → (((7 : Int32) < v1 → Q (some (-1)) σ) ∧ (¬ (7 : Int32) < v1 → (X1p_badF [v2] σ ∧ ∀ x1 : Int32, X1q_badF [v2] σ x1 → ((x1 = (0 : Int32) → (∃ g2 : Gam, X1p_workOut g2 [] σ ∧ ∀ s3 : mS, X1q_workOut g2 [] σ s3 → (vp_in ((v1 * 2) + v2) 16 ∧ ∀ x4 : Int32, x4 = s3 22 ((v1 * 2) + v2).toNatClampNeg → Q (some x4) s3))) ∧ (¬ x1 = (0 : Int32) → Q (some (-1)) σ)))))))) : G 0 [some (.inr 99), some (.inl v1), some (.inl v2)] [] σ := hG 20 0 _ _ _ h
def X1g_threadAt : mP := (X1b_threadAt, flX1, fdX1, some .int, [], [])
theorem X1v_threadAt_0 {G : Nat → mL → List mv → mS → Prop} {Q : Option Int32 → mS → Prop} (hG : mCl X1g_threadAt G Q) (v1 : Int32) (σ : mS)
    (h : (((4 : Int32) ≤ v1 → (vp_in (v1 - 4) 12 ∧ ∀ x1 : Int32, x1 = σ 12 (v1 - 4).toNatClampNeg → Q (some x1) σ)) ∧ (¬ (4 : Int32) ≤ v1 → Q (some v1) σ))) : G 0 [some (.inr 99), some (.inl v1)] [] σ := hG 10 0 _ _ _ h
def X1g_held : mP := (X1b_held, flX1, fdX1, some .int, [(106, 1, true, X1t_badPlace), (97, 0, true, X1t_workOut)], [(23, [true, true, true, true, true, false]), (37, [true, true, true, true, true, true])])
theorem X1v_held_0 {G : Nat → mL → List mv → mS → Prop} {Q : Option Int32 → mS → Prop} (hG : mCl X1g_held G Q) (v1 : Int32) (σ : mS)
    (h : (X1p_badPlace [v1] σ ∧ ∀ x1 : Int32, X1q_badPlace [v1] σ x1 → ((x1 = (0 : Int32) → (∃ g2 : Gam, X1p_workOut g2 [] σ ∧ ∀ s3 : mS, X1q_workOut g2 [] σ s3 → G 23 [some (.inr 99), some (.inl v1), some (.inl 0), some (.inl (v1 - 4)), some (.inl 0), none] [] s3)) ∧ (¬ x1 = (0 : Int32) → Q (some (-1)) σ)))) : G 0 [some (.inr 99), some (.inl v1), none, none, none, none] [] σ := hG 15 0 _ _ _ h
theorem X1v_held_23 {G : Nat → mL → List mv → mS → Prop} {Q : Option Int32 → mS → Prop} (hG : mCl X1g_held G Q) (v1 v2 v3 v4 : Int32) (σ : mS)
    (h : (((12 : Int32) ≤ v4 → Q (some v2) σ) ∧ (¬ (12 : Int32) ≤ v4 → ((v3 < (0 : Int32) → Q (some v2) σ) ∧ (¬ v3 < (0 : Int32) → G 37 [some (.inr 99), some (.inl v1), some (.inl v2), some (.inl v3), some (.inl v4), some (.inl 0)] [] σ))))) : G 23 [some (.inr 99), some (.inl v1), some (.inl v2), some (.inl v3), some (.inl v4), none] [] σ := hG 8 23 _ _ _ h
theorem X1v_held_37 {G : Nat → mL → List mv → mS → Prop} {Q : Option Int32 → mS → Prop} (hG : mCl X1g_held G Q) (v1 v2 v3 v4 v5 : Int32) (σ : mS)
    (h : (((8 : Int32) ≤ v5 → (vp_in v3 12 ∧ ∀ x1 : Int32, x1 = σ 14 v3.toNatClampNeg → G 23 [some (.inr 99), some (.inl v1), some (.inl v2), some (.inl x1), some (.inl (v4 + 1)), none] [] σ)) ∧ (¬ (8 : Int32) ≤ v5 → (vp_in v3 12 ∧ ∀ x2 : Int32, x2 = σ 13 v3.toNatClampNeg → (vp_in x2 12 ∧ ∀ x3 : Int32, x3 = σ 21 x2.toNatClampNeg → ((¬ x3 = ((1 : Int32) <<< (v5 &&& 31)) → G 37 [some (.inr 99), some (.inl v1), some (.inl v2), some (.inl v3), some (.inl v4), some (.inl (v5 + 1))] [] σ) ∧ (x3 = ((1 : Int32) <<< (v5 &&& 31)) → (vp_in v5 8 ∧ ∀ x4 : Int32, x4 = σ 10 v5.toNatClampNeg → ((x4 = (0 : Int32) → G 37 [some (.inr 99), some (.inl v1), some (.inl v2), some (.inl v3), some (.inl v4), some (.inl (v5 + 1))] [] σ) ∧ (¬ x4 = (0 : Int32) → G 37 [some (.inr 99), some (.inl v1), some (.inl (v2 ||| ((1 : Int32) <<< (v5 &&& 31)))), some (.inl v3), some (.inl v4), some (.inl (v5 + 1))] [] σ)))))))))) : G 37 [some (.inr 99), some (.inl v1), some (.inl v2), some (.inl v3), some (.inl v4), some (.inl v5)] [] σ := hG 28 37 _ _ _ h
def X1g_race : mP := (X1b_race, flX1, fdX1, some .boolean, [(112, 1, true, X1t_threadAt), (97, 0, true, X1t_workOut), (115, 1, true, X1t_held)], [])
theorem X1v_race_0 {G : Nat → mL → List mv → mS → Prop} {Q : Option Int32 → mS → Prop} (hG : mCl X1g_race G Q) (v1 v2 : Int32) (σ : mS)
    (h : ((v1 < (0 : Int32) → (((0 : Int32) = 0 ∨ (0 : Int32) = 1) ∧ Q (some 0) σ)) ∧ (¬ v1 < (0 : Int32) → (((σ 15 0) ≤ v1 → (((0 : Int32) = 0 ∨ (0 : Int32) = 1) ∧ Q (some 0) σ)) ∧ (¬ (σ 15 0) ≤ v1 → ((v2 < (0 : Int32) → (((0 : Int32) = 0 ∨ (0 : Int32) = 1) ∧ Q (some 0) σ)) ∧ (¬ v2 < (0 : Int32) → ((v2 < (σ 15 0) → (vp_in v1 16 ∧ ∀ x1 : Int32, x1 = σ 16 v1.toNatClampNeg → (∃ g2 : AS, X1p_threadAt g2 [x1] σ ∧ ∀ x3 : Int32, X1q_threadAt g2 [x1] σ x3 → (vp_in v2 16 ∧ ∀ x4 : Int32, x4 = σ 16 v2.toNatClampNeg → (∃ g5 : AS, X1p_threadAt g5 [x4] σ ∧ ∀ x6 : Int32, X1q_threadAt g5 [x4] σ x6 → ((x3 = x6 → (((0 : Int32) = 0 ∨ (0 : Int32) = 1) ∧ Q (some 0) σ)) ∧ (¬ x3 = x6 → (vp_in v1 16 ∧ ∀ x7 : Int32, x7 = σ 18 v1.toNatClampNeg → (vp_in v2 16 ∧ ∀ x8 : Int32, x8 = σ 18 v2.toNatClampNeg → ((¬ x7 = x8 → (((0 : Int32) = 0 ∨ (0 : Int32) = 1) ∧ Q (some 0) σ)) ∧ (x7 = x8 → (vp_in v1 16 ∧ ∀ x9 : Int32, x9 = σ 19 v1.toNatClampNeg → ((¬ x9 = (0 : Int32) → (∃ g10 : Gam, X1p_workOut g10 [] σ ∧ ∀ s11 : mS, X1q_workOut g10 [] σ s11 → (vp_in v1 16 ∧ ∀ x12 : Int32, x12 = s11 17 v1.toNatClampNeg → (vp_in x12 12 ∧ ∀ x13 : Int32, x13 = s11 21 x12.toNatClampNeg → (vp_in v2 16 ∧ ∀ x14 : Int32, x14 = s11 17 v2.toNatClampNeg → (vp_in x14 12 ∧ ∀ x15 : Int32, x15 = s11 21 x14.toNatClampNeg → ((¬ (x13 &&& x15) = (0 : Int32) → (vp_in v1 16 ∧ ∀ x16 : Int32, x16 = s11 16 v1.toNatClampNeg → (∃ g17 : AS, X1p_held g17 [x16] s11 ∧ ∀ (x18 : Int32) (s19 : mS), X1q_held g17 [x16] s11 x18 s19 → (vp_in v2 16 ∧ ∀ x20 : Int32, x20 = s19 16 v2.toNatClampNeg → (∃ g21 : AS, X1p_held g21 [x20] s19 ∧ ∀ (x22 : Int32) (s23 : mS), X1q_held g21 [x20] s19 x22 s23 → ((¬ (x18 &&& x22) = (0 : Int32) → (((0 : Int32) = 0 ∨ (0 : Int32) = 1) ∧ Q (some 0) s23)) ∧ ((x18 &&& x22) = (0 : Int32) → (((1 : Int32) = 0 ∨ (1 : Int32) = 1) ∧ Q (some 1) s23)))))))) ∧ ((x13 &&& x15) = (0 : Int32) → (((0 : Int32) = 0 ∨ (0 : Int32) = 1) ∧ Q (some 0) s11))))))))) ∧ (x9 = (0 : Int32) → (vp_in v2 16 ∧ ∀ x24 : Int32, x24 = σ 19 v2.toNatClampNeg → ((¬ x24 = (0 : Int32) → (∃ g25 : Gam, X1p_workOut g25 [] σ ∧ ∀ s26 : mS, X1q_workOut g25 [] σ s26 → (vp_in v1 16 ∧ ∀ x27 : Int32, x27 = s26 17 v1.toNatClampNeg → (vp_in x27 12 ∧ ∀ x28 : Int32, x28 = s26 21 x27.toNatClampNeg → (vp_in v2 16 ∧ ∀ x29 : Int32, x29 = s26 17 v2.toNatClampNeg → (vp_in x29 12 ∧ ∀ x30 : Int32, x30 = s26 21 x29.toNatClampNeg → ((¬ (x28 &&& x30) = (0 : Int32) → (vp_in v1 16 ∧ ∀ x31 : Int32, x31 = s26 16 v1.toNatClampNeg → (∃ g32 : AS, X1p_held g32 [x31] s26 ∧ ∀ (x33 : Int32) (s34 : mS), X1q_held g32 [x31] s26 x33 s34 → (vp_in v2 16 ∧ ∀ x35 : Int32, x35 = s34 16 v2.toNatClampNeg → (∃ g36 : AS, X1p_held g36 [x35] s34 ∧ ∀ (x37 : Int32) (s38 : mS), X1q_held g36 [x35] s34 x37 s38 → ((¬ (x33 &&& x37) = (0 : Int32) → (((0 : Int32) = 0 ∨ (0 : Int32) = 1) ∧ Q (some 0) s38)) ∧ ((x33 &&& x37) = (0 : Int32) → (((1 : Int32) = 0 ∨ (1 : Int32) = 1) ∧ Q (some 1) s38)))))))) ∧ ((x28 &&& x30) = (0 : Int32) → (((0 : Int32) = 0 ∨ (0 : Int32) = 1) ∧ Q (some 0) s26))))))))) ∧ (x24 = (0 : Int32) → (((0 : Int32) = 0 ∨ (0 : Int32) = 1) ∧ Q (some 0) σ)))))))))))))))))) ∧ (¬ v2 < (σ 15 0) → (((0 : Int32) = 0 ∨ (0 : Int32) = 1) ∧ Q (some 0) σ)))))))))) : G 0 [some (.inr 99), some (.inl v1), some (.inl v2)] [] σ := hG 79 0 _ _ _ h
def X1g_races : mP := (X1b_races, flX1, fdX1, some .int, [(118, 2, true, X1t_race)], [(4, [true, true, true, false]), (16, [true, true, true, true])])
theorem X1v_races_0 {G : Nat → mL → List mv → mS → Prop} {Q : Option Int32 → mS → Prop} (hG : mCl X1g_races G Q) (σ : mS)
    (h : G 4 [some (.inr 99), some (.inl 0), some (.inl 0), none] [] σ) : G 0 [some (.inr 99), none, none, none] [] σ := hG 5 0 _ _ _ h
theorem X1v_races_4 {G : Nat → mL → List mv → mS → Prop} {Q : Option Int32 → mS → Prop} (hG : mCl X1g_races G Q) (v1 v2 : Int32) (σ : mS)
    (h : (((σ 15 0) ≤ v2 → Q (some v1) σ) ∧ (¬ (σ 15 0) ≤ v2 → G 16 [some (.inr 99), some (.inl v1), some (.inl v2), some (.inl (v2 + 1))] [] σ))) : G 4 [some (.inr 99), some (.inl v1), some (.inl v2), none] [] σ := hG 9 4 _ _ _ h
theorem X1v_races_16 {G : Nat → mL → List mv → mS → Prop} {Q : Option Int32 → mS → Prop} (hG : mCl X1g_races G Q) (v1 v2 v3 : Int32) (σ : mS)
    (h : (((σ 15 0) ≤ v3 → G 4 [some (.inr 99), some (.inl v1), some (.inl (v2 + 1)), none] [] σ) ∧ (¬ (σ 15 0) ≤ v3 → (∃ g1 : AS, X1p_race g1 [v2, v3] σ ∧ ∀ (x2 : Int32) (s3 : mS), X1q_race g1 [v2, v3] σ x2 s3 → ((x2 = (0 : Int32) → G 16 [some (.inr 99), some (.inl v1), some (.inl v2), some (.inl (v3 + 1))] [] s3) ∧ (¬ x2 = (0 : Int32) → G 16 [some (.inr 99), some (.inl (v1 + 1)), some (.inl v2), some (.inl (v3 + 1))] [] s3)))))) : G 16 [some (.inr 99), some (.inl v1), some (.inl v2), some (.inl v3)] [] σ := hG 13 16 _ _ _ h
end
section
/-! the model: once, region, access, sets, threads, locks held, races -/
set_option maxRecDepth 100000
/-- the solver's part stays -/
theorem RepM.core {A : AS} {σ τ : mS} (h : RepM A σ) (hk : ∀ k, k < 10 ∨ (20 ≤ k ∧ k < 23) → τ k = σ k) : MC A.1 τ ∧ (τ 20 0 = 0 ∨ (τ 20 0 = 1 ∧ SolM A.1 τ)) := by
  refine ⟨h.2.1.fr (fun k hk10 => hk k (Or.inl hk10)), ?_⟩
  have e : SolM A.1 τ = SolM A.1 σ := by
    unfold SolM pv
    rw [hk 21 (by omega), hk 22 (by omega)]
  rw [e, hk 20 (by omega)]
  exact h.2.2.2.2.2
theorem X1d_once (G : Nat → mL → List mv → mS → Prop) (Q : Option Int32 → mS → Prop) (vs : List Int32) (σ : mS) (hG : mCl X1g_once G Q) (h : X1t_once vs σ Q) : (vs.length + 1 ≤ 4 ∨ (true = false ∧ vs.length ≤ 4)) ∧ G 0 (mL0 4 true vs) [] σ := by
  obtain ⟨A, ⟨hA, s, b, rfl, hb⟩, h⟩ := h
  have hq : ∀ r τ, r = (opOnce A s b).1 → RepM (opOnce A s b).2 τ → Q (some r) τ := fun r τ h1 h2 => h r τ fun v' s' e => by cases e; exact ⟨h1, h2⟩
  unfold opOnce at hq
  refine ⟨Or.inl (Nat.le_of_ble_eq_true rfl), X1v_once_0 hG s b σ ⟨fun c => ?_, fun c => ⟨fun d => ?_, fun d => ?_⟩⟩⟩
  · rw [if_pos (Or.inl c)] at hq
    exact hq _ σ rfl hA
  · obtain ⟨j, hj, rfl⟩ := zn_leN (N := 7) (by decide) c d
    rw [if_neg (bd_no hj (by decide)), nv_ix (by omega)] at hq
    have cj : (nI j).toNatClampNeg = j := nI_clamp (by omega)
    have hj8 := zi_in hj (show 8 < 2 ^ 31 by decide)
    obtain ⟨k1, k2⟩ := hA.core (τ := mU σ 10 j (b &&& 1)) (fun k hk => mU_ne (by omega))
    obtain ⟨a1, a2, a3, a4, a5, a6⟩ := hA
    have hR : RepM (A.1, (fun k => if k = j then decide (¬ b = 0) else A.2.1 k), A.2.2) (mU σ 10 j (b &&& 1)) := by
      refine ⟨a1, k1, fun t ht => ?_, ⟨?_, fun r hr => ?_⟩, ⟨?_, fun i hi => ?_⟩, k2⟩
      · by_cases e : t = j
        · subst e
          rw [mU_s]
          show b &&& 1 = if (if t = t then decide (¬ b = 0) else A.2.1 t) = true then 1 else 0
          rw [if_pos rfl]
          rcases hb with e | e <;> subst e <;> decide
        · rw [mU_o (Or.inr e), a3 t ht]
          show (if A.2.1 t = true then (1 : Int32) else 0) = if (if t = j then decide (¬ b = 0) else A.2.1 t) = true then 1 else 0
          rw [if_neg e]
      · rw [mU_ne (by decide)]; exact a4.1
      · rw [mU_ne (by decide), mU_ne (by decide), mU_ne (by decide)]; exact a4.2 r hr
      · rw [mU_ne (by decide)]; exact a5.1
      · rw [mU_ne (by decide), mU_ne (by decide), mU_ne (by decide), mU_ne (by decide)]; exact a5.2 i hi
    rw [cj]
    refine ⟨hj8, fun x1 e1 => ?_⟩
    rw [a3 j hj] at e1
    refine ⟨fun g => ⟨hj8, hq _ _ ?_ hR⟩, fun g => ⟨hj8, hq _ _ ?_ hR⟩⟩
    · cases hc : A.2.1 j
      · rfl
      · rw [hc] at e1
        rw [e1] at g
        exact absurd g (by decide)
    · cases hc : A.2.1 j
      · rw [hc] at e1
        exact absurd e1 g
      · rfl
  · rw [if_pos (Or.inr (zn_gtN (N := 7) (by decide) d))] at hq
    exact hq _ σ rfl hA
theorem RepM.reg {A : AS} {σ : mS} (hA : RepM A σ) {t v : Nat} {a : Option Nat} (ht : t < 4) (hv : v < 12) (ha : ∀ r, a = some r → r < A.2.2.1.length) (hl : A.2.2.1.length < 12) :
    RepM (A.1, A.2.1, A.2.2.1 ++ [(t, v, a)], A.2.2.2) (mU (mU (mU (mU σ 12 A.2.2.1.length (nI t)) 13 A.2.2.1.length (nI v)) 14 A.2.2.1.length (enc a)) 11 0 (nI (A.2.2.1.length + 1))) := by
  obtain ⟨c1, c2⟩ := hA.core (τ := mU (mU (mU (mU σ 12 A.2.2.1.length (nI t)) 13 A.2.2.1.length (nI v)) 14 A.2.2.1.length (enc a)) 11 0 (nI (A.2.2.1.length + 1))) (fun k hk => by rw [mU_ne (by omega), mU_ne (by omega), mU_ne (by omega), mU_ne (by omega)])
  obtain ⟨⟨b1, b2, b3, b4, b5, b6, b7⟩, -, a4, a5, a6, -⟩ := hA
  have hlen : (A.2.2.1 ++ [(t, v, a)]).length = A.2.2.1.length + 1 := by rw [List.length_append, List.length_singleton]
  refine ⟨⟨b1, b2, b3, ?_, b5, fun r hr => ?_, fun i hi => ?_⟩, c1, fun s hs => ?_, ⟨?_, fun r hr => ?_⟩, ⟨?_, fun i hi => ?_⟩, c2⟩
  · show (A.2.2.1 ++ [(t, v, a)]).length ≤ 12
    omega
  · have hr : r < (A.2.2.1 ++ [(t, v, a)]).length := hr
    unfold rg
    dsimp only
    rcases Nat.lt_or_ge r A.2.2.1.length with h | h
    · rw [gd_l h]
      exact b6 r h
    · have e : r = A.2.2.1.length := by omega
      subst e
      rw [gd_r]
      exact ⟨ht, hv, ha⟩
  · obtain ⟨d1, d2⟩ := b7 i hi
    refine ⟨?_, d2⟩
    show (ac A i).1 < 4 + (A.2.2.1 ++ [(t, v, a)]).length
    omega
  · rw [mU_ne (by decide), mU_ne (by decide), mU_ne (by decide), mU_ne (by decide)]
    exact a4 s hs
  · rw [mU_s]
    show _ = nI (A.2.2.1 ++ [(t, v, a)]).length
    rw [hlen]
  · have hr : r < (A.2.2.1 ++ [(t, v, a)]).length := hr
    unfold rg
    dsimp only
    rcases Nat.lt_or_ge r A.2.2.1.length with h | h
    · rw [gd_l h]
      obtain ⟨z1, z2, z3⟩ := a5.2 r h
      refine ⟨?_, ?_, ?_⟩
      · rw [mU_ne (by decide), mU_ne (by decide), mU_ne (by decide), mU_o (Or.inr (by omega))]; exact z1
      · rw [mU_ne (by decide), mU_ne (by decide), mU_o (Or.inr (by omega)), mU_ne (by decide)]; exact z2
      · rw [mU_ne (by decide), mU_o (Or.inr (by omega)), mU_ne (by decide), mU_ne (by decide)]; exact z3
    · have e : r = A.2.2.1.length := by omega
      subst e
      rw [gd_r]
      refine ⟨?_, ?_, ?_⟩
      · rw [mU_ne (by decide), mU_ne (by decide), mU_ne (by decide), mU_s]
      · rw [mU_ne (by decide), mU_ne (by decide), mU_s]
      · rw [mU_ne (by decide), mU_s]
  · rw [mU_ne (by decide), mU_ne (by decide), mU_ne (by decide), mU_ne (by decide)]
    exact a6.1
  · obtain ⟨z1, z2, z3, z4⟩ := a6.2 i hi
    refine ⟨?_, ?_, ?_, ?_⟩
    · rw [mU_ne (by decide), mU_ne (by decide), mU_ne (by decide), mU_ne (by decide)]; exact z1
    · rw [mU_ne (by decide), mU_ne (by decide), mU_ne (by decide), mU_ne (by decide)]; exact z2
    · rw [mU_ne (by decide), mU_ne (by decide), mU_ne (by decide), mU_ne (by decide)]; exact z3
    · rw [mU_ne (by decide), mU_ne (by decide), mU_ne (by decide), mU_ne (by decide)]; exact z4
theorem X1d_region (G : Nat → mL → List mv → mS → Prop) (Q : Option Int32 → mS → Prop) (vs : List Int32) (σ : mS) (hG : mCl X1g_region G Q) (h : X1t_region vs σ Q) : (vs.length + 1 ≤ 4 ∨ (true = false ∧ vs.length ≤ 4)) ∧ G 0 (mL0 4 true vs) [] σ := by
  obtain ⟨A, ⟨hA, t, v, a, rfl⟩, h⟩ := h
  have hq : ∀ r τ, r = (opRegion A t v a).1 → RepM (opRegion A t v a).2 τ → Q (some r) τ := fun r τ h1 h2 => h r τ fun v' s' a' e => by cases e; exact ⟨h1, h2⟩
  have e17 := hA.2.2.2.1.1
  have hl12 := hA.1.2.2.2.1
  have hbad : (bdN 4 t ∨ bdN 12 v ∨ a < -1 ∨ nI A.2.2.1.length ≤ a ∨ (0 ≤ a ∧ (rg A (nv a)).1 ≠ nv t)) → Q (some (-1)) σ := fun hb => hq _ σ (by unfold opRegion; rw [if_pos hb]) (by unfold opRegion; rw [if_pos hb]; exact hA)
  refine ⟨Or.inl (Nat.le_of_ble_eq_true rfl), X1v_region_0 hG t v a σ ⟨fun c => hbad (Or.inl (Or.inl c)), fun c1 => ⟨fun c => hbad (Or.inl (Or.inr (zn_gt3 c))), fun c2 => ⟨⟨v, rfl⟩, fun x1 h1 => ⟨fun c => hbad (Or.inr (Or.inl (r1_of (h1 v rfl) c))), fun c3 => ⟨fun c => hbad (Or.inr (Or.inr (Or.inl c))), fun c4 => ?_⟩⟩⟩⟩⟩⟩
  obtain ⟨i, hi, rfl⟩ := zn_le3 c1 c2
  obtain ⟨j, hj, rfl⟩ := r0_of (h1 v rfl) c3
  rw [e17]
  have fin : ∀ ao : Option Nat, enc ao = a → (∀ r, ao = some r → r < A.2.2.1.length) → (if 0 ≤ a then some (nv a) else none) = ao → ¬ (bdN 4 (nI i) ∨ bdN 12 (nI j) ∨ a < -1 ∨ nI A.2.2.1.length ≤ a ∨ (0 ≤ a ∧ (rg A (nv a)).1 ≠ nv (nI i))) →
      ((¬ nI A.2.2.1.length = (12 : Int32) → vp_in (nI A.2.2.1.length) 12 ∧ vp_in (nI A.2.2.1.length) 12 ∧ vp_in (nI A.2.2.1.length) 12 ∧ Q (some (((mU (mU (mU (mU σ 12 (nI A.2.2.1.length).toNatClampNeg (nI i)) 13 (nI A.2.2.1.length).toNatClampNeg (nI j)) 14 (nI A.2.2.1.length).toNatClampNeg a) 11 0 (nI A.2.2.1.length + 1)) 11 0) - 1)) (mU (mU (mU (mU σ 12 (nI A.2.2.1.length).toNatClampNeg (nI i)) 13 (nI A.2.2.1.length).toNatClampNeg (nI j)) 14 (nI A.2.2.1.length).toNatClampNeg a) 11 0 (nI A.2.2.1.length + 1))) ∧ (nI A.2.2.1.length = (12 : Int32) → Q (some (-2)) σ)) := by
    intro ao he har hao hnb
    refine ⟨fun d => ?_, fun d => ?_⟩
    · have hlen : A.2.2.1.length < 12 := by
        rcases Nat.lt_or_ge A.2.2.1.length 12 with z | z
        · exact z
        · have e : A.2.2.1.length = 12 := by omega
          rw [e] at d
          exact absurd rfl d
      have hin := zi_in hlen (show 12 < 2 ^ 31 by decide)
      have hR := hA.reg hi hj har hlen
      refine ⟨hin, hin, hin, hq _ _ ?_ ?_⟩
      · unfold opRegion
        rw [if_neg hnb, if_neg (by omega), mU_s, nI_1, nI_pred]
      · unfold opRegion
        rw [if_neg hnb, if_neg (by omega), nI_clamp (by omega), nI_1, hao, nv_ix (by omega), nv_ix (by omega), ← he]
        exact hR
    · have hlen : 12 ≤ A.2.2.1.length := by
        have := zn_inj (a := A.2.2.1.length) (b := 12) (by omega) (by omega) d
        omega
      refine hq _ σ ?_ ?_
      · unfold opRegion
        rw [if_neg hnb, if_pos hlen]
      · unfold opRegion
        rw [if_neg hnb, if_pos hlen]
        exact hA
  have hb4 := bd_no hi (show 4 < 2 ^ 31 by decide)
  have hb12 := bd_no hj (show 12 < 2 ^ 31 by decide)
  refine ⟨fun c5 => ⟨fun c6 => ?_, fun c6 => ?_⟩, fun c5 => hbad (Or.inr (Or.inr (Or.inr (Or.inl (Int32.not_lt.mp c5)))))⟩
  · refine fin none (zn_m1' c6 c4).symm (fun r e => by cases e) (if_neg (Int32.not_le.mpr c6)) ?_
    rintro (q | q | q | q | q)
    · exact hb4 q
    · exact hb12 q
    · exact c4 q
    · exact absurd c5 (Int32.not_lt.mpr q)
    · exact absurd c6 (Int32.not_lt.mpr q.1)
  · obtain ⟨r, hr, rfl⟩ := zn_ix (N := A.2.2.1.length) (by omega) c6 (fun q => absurd c5 (Int32.not_lt.mpr q))
    refine ⟨zi_in (by omega) (by decide), fun x2 e2 => ?_⟩
    rw [nI_clamp (by omega), (hA.2.2.2.1.2 r hr).1] at e2
    subst e2
    have hth := (hA.1.2.2.2.2.2.1 r hr).1
    refine ⟨fun c7 => ?_, fun c7 => ?_⟩
    · refine fin (some r) rfl (fun r' e => by cases e; exact hr) ?_ ?_
      · rw [if_pos (nI_pos' (by omega)), nv_ix (by omega)]
      · rintro (q | q | q | q | q)
        · exact hb4 q
        · exact hb12 q
        · exact c4 q
        · exact absurd c5 (Int32.not_lt.mpr q)
        · rw [nv_ix (by omega), nv_ix (by omega)] at q
          exact q.2 (zn_inj (by omega) (by omega) c7)
    · refine hbad (Or.inr (Or.inr (Or.inr (Or.inr ⟨nI_pos' (by omega), fun q => c7 ?_⟩))))
      rw [nv_ix (by omega), nv_ix (by omega)] at q
      rw [q]
theorem X1d_badPlace (G : Nat → mL → List mv → mS → Prop) (Q : Option Int32 → mS → Prop) (vs : List Int32) (σ : mS) (hG : mCl X1g_badPlace G Q) (h : X1t_badPlace vs σ Q) : (vs.length + 1 ≤ 2 ∨ (true = false ∧ vs.length ≤ 2)) ∧ G 0 (mL0 2 true vs) [] σ := by
  obtain ⟨⟨p, n, rfl, hn, e⟩, h⟩ := h
  have hq : ∀ r, ((r = 1 ∧ bdN (4 + n) p) ∨ (r = 0 ∧ ∃ j, j < 4 + n ∧ p = nI j)) → Q (some r) σ := fun r hr => h r fun p' n' e1 e2 e3 => by
    cases e1
    have : n' = n := zn_inj (by omega) (by omega) (e3.symm.trans e)
    subst this
    exact hr
  refine ⟨Or.inl (Nat.le_refl 2), X1v_badPlace_0 hG p σ ⟨fun c => ⟨Or.inr rfl, hq 1 (Or.inl ⟨rfl, Or.inl c⟩)⟩, fun c => ⟨fun d => ⟨Or.inl rfl, hq 0 (Or.inr ⟨rfl, ?_⟩)⟩, fun d => ⟨Or.inr rfl, hq 1 (Or.inl ⟨rfl, Or.inr ?_⟩)⟩⟩⟩⟩
  · rw [e, zn_4] at d
    exact zn_ix (by omega) c (fun q => absurd d (Int32.not_lt.mpr q))
  · rw [e, zn_4] at d
    exact zn_nlt d
theorem X1d_access (G : Nat → mL → List mv → mS → Prop) (Q : Option Int32 → mS → Prop) (vs : List Int32) (σ : mS) (hG : mCl X1g_access G Q) (h : X1t_access vs σ Q) : (vs.length + 1 ≤ 5 ∨ (true = false ∧ vs.length ≤ 5)) ∧ G 0 (mL0 5 true vs) [] σ := by
  obtain ⟨A, ⟨hA, p, v, f, w, rfl, hw⟩, h⟩ := h
  have hq : ∀ r τ, r = (opAccess A p v f w).1 → RepM (opAccess A p v f w).2 τ → Q (some r) τ := fun r τ h1 h2 => h r τ fun v' s' a' w' e => by cases e; exact ⟨h1, h2⟩
  have e17 := hA.2.2.2.1.1
  have e21 := hA.2.2.2.2.1.1
  have hl12 := hA.1.2.2.2.1
  have hl16 := hA.1.2.2.2.2.1
  have hbad : (bdN (4 + A.2.2.1.length) p ∨ bdN 12 v ∨ bdN 2 f) → Q (some (-1)) σ := fun hb => hq _ σ (by unfold opAccess; rw [if_pos hb]) (by unfold opAccess; rw [if_pos hb]; exact hA)
  refine ⟨Or.inl (Nat.le_of_ble_eq_true rfl), X1v_access_0 hG p v f w σ ⟨⟨p, A.2.2.1.length, rfl, hl12, e17⟩, fun x1 h1 => ⟨fun c => hbad (Or.inl (r1_of (h1 p _ rfl hl12 e17) c)), fun c1 => ⟨⟨v, rfl⟩, fun x2 h2 => ⟨fun c => hbad (Or.inr (Or.inl (r1_of (h2 v rfl) c))), fun c2 => ⟨⟨f, rfl⟩, fun x3 h3 => ⟨fun c3 => ?_, fun c => hbad (Or.inr (Or.inr (r1_of (h3 f rfl) c)))⟩⟩⟩⟩⟩⟩⟩
  obtain ⟨i, hi, rfl⟩ := r0_of (h1 p _ rfl hl12 e17) c1
  obtain ⟨j, hj, rfl⟩ := r0_of (h2 v rfl) c2
  obtain ⟨k, hk, rfl⟩ := r0_of (h3 f rfl) c3
  have hnb : ¬ (bdN (4 + A.2.2.1.length) (nI i) ∨ bdN 12 (nI j) ∨ bdN 2 (nI k)) := by
    rintro (q | q | q)
    · exact bd_no hi (by omega) q
    · exact bd_no hj (by decide) q
    · exact bd_no hk (by decide) q
  rw [e21]
  refine ⟨fun d => ?_, fun d => ?_⟩
  · have hlen : A.2.2.2.length < 16 := by
      rcases Nat.lt_or_ge A.2.2.2.length 16 with z | z
      · exact z
      · have e : A.2.2.2.length = 16 := by omega
        rw [e] at d
        exact absurd rfl d
    have hin := zi_in hlen (show 16 < 2 ^ 31 by decide)
    refine ⟨hin, hin, hin, hin, hq _ _ ?_ ?_⟩
    · unfold opAccess
      rw [if_neg hnb, if_neg (by omega), mU_s, nI_1, nI_pred]
    · unfold opAccess
      rw [if_neg hnb, if_neg (by omega), nI_clamp (by omega), nI_1, nv_ix (by omega), nv_ix (by omega), nv_ix (by omega)]
      dsimp only
      have hlen2 : (A.2.2.2 ++ [(i, j, k, decide (¬ w = 0))]).length = A.2.2.2.length + 1 := by rw [List.length_append, List.length_singleton]
      obtain ⟨c1, c2⟩ := hA.core (τ := mU (mU (mU (mU (mU σ 16 A.2.2.2.length (nI i)) 17 A.2.2.2.length (nI j)) 18 A.2.2.2.length (nI k)) 19 A.2.2.2.length (w &&& 1)) 15 0 (nI (A.2.2.2.length + 1))) (fun k hk => by rw [mU_ne (by omega), mU_ne (by omega), mU_ne (by omega), mU_ne (by omega), mU_ne (by omega)])
      obtain ⟨⟨b1, b2, b3, b4, b5, b6, b7⟩, -, a4, a5, a6, -⟩ := hA
      refine ⟨⟨b1, b2, b3, b4, ?_, b6, fun n hn => ?_⟩, c1, fun s hs => ?_, ⟨?_, fun r hr => ?_⟩, ⟨?_, fun n hn => ?_⟩, c2⟩
      · show (A.2.2.2 ++ [(i, j, k, decide (¬ w = 0))]).length ≤ 16
        omega
      · have hn : n < (A.2.2.2 ++ [(i, j, k, decide (¬ w = 0))]).length := hn
        unfold ac
        dsimp only
        rcases Nat.lt_or_ge n A.2.2.2.length with h | h
        · rw [gd_l h]
          exact b7 n h
        · have e : n = A.2.2.2.length := by omega
          subst e
          rw [gd_r]
          exact ⟨hi, hj, hk⟩
      · rw [mU_ne (by decide), mU_ne (by decide), mU_ne (by decide), mU_ne (by decide), mU_ne (by decide)]
        exact a4 s hs
      · rw [mU_ne (by decide), mU_ne (by decide), mU_ne (by decide), mU_ne (by decide), mU_ne (by decide)]
        exact a5.1
      · obtain ⟨z1, z2, z3⟩ := a5.2 r hr
        refine ⟨?_, ?_, ?_⟩
        · rw [mU_ne (by decide), mU_ne (by decide), mU_ne (by decide), mU_ne (by decide), mU_ne (by decide)]; exact z1
        · rw [mU_ne (by decide), mU_ne (by decide), mU_ne (by decide), mU_ne (by decide), mU_ne (by decide)]; exact z2
        · rw [mU_ne (by decide), mU_ne (by decide), mU_ne (by decide), mU_ne (by decide), mU_ne (by decide)]; exact z3
      · rw [mU_s]
        show _ = nI (A.2.2.2 ++ [(i, j, k, decide (¬ w = 0))]).length
        rw [hlen2]
      · have hn : n < (A.2.2.2 ++ [(i, j, k, decide (¬ w = 0))]).length := hn
        unfold ac
        dsimp only
        rcases Nat.lt_or_ge n A.2.2.2.length with h | h
        · obtain ⟨d1, d2, d3, d4⟩ := a6.2 n h
          rw [gd_l h]
          refine ⟨?_, ?_, ?_, ?_⟩
          · rw [mU_ne (by decide), mU_ne (by decide), mU_ne (by decide), mU_ne (by decide), mU_o (Or.inr (by omega))]; exact d1
          · rw [mU_ne (by decide), mU_ne (by decide), mU_ne (by decide), mU_o (Or.inr (by omega)), mU_ne (by decide)]; exact d2
          · rw [mU_ne (by decide), mU_ne (by decide), mU_o (Or.inr (by omega)), mU_ne (by decide), mU_ne (by decide)]; exact d3
          · rw [mU_ne (by decide), mU_o (Or.inr (by omega)), mU_ne (by decide), mU_ne (by decide), mU_ne (by decide)]; exact d4
        · have e : n = A.2.2.2.length := by omega
          subst e
          rw [gd_r]
          refine ⟨?_, ?_, ?_, ?_⟩
          · rw [mU_ne (by decide), mU_ne (by decide), mU_ne (by decide), mU_ne (by decide), mU_s]
          · rw [mU_ne (by decide), mU_ne (by decide), mU_ne (by decide), mU_s]
          · rw [mU_ne (by decide), mU_ne (by decide), mU_s]
          · rw [mU_ne (by decide), mU_s]
            rcases hw with e | e
            · rw [e]
              show (0 &&& 1 : Int32) = if decide (¬ (0 : Int32) = 0) = true then 1 else 0
              decide
            · rw [e]
              show (1 &&& 1 : Int32) = if decide (¬ (1 : Int32) = 0) = true then 1 else 0
              decide
  · have hlen : 16 ≤ A.2.2.2.length := by
      have := zn_inj (a := A.2.2.2.length) (b := 16) (by omega) (by omega) d
      omega
    refine hq _ σ ?_ ?_
    · unfold opAccess
      rw [if_neg hnb, if_pos hlen]
    · unfold opAccess
      rw [if_neg hnb, if_pos hlen]
      exact hA
theorem X1d_pointsTo (G : Nat → mL → List mv → mS → Prop) (Q : Option Int32 → mS → Prop) (vs : List Int32) (σ : mS) (hG : mCl X1g_pointsTo G Q) (h : X1t_pointsTo vs σ Q) : (vs.length + 1 ≤ 2 ∨ (true = false ∧ vs.length ≤ 2)) ∧ G 0 (mL0 2 true vs) [] σ := by
  obtain ⟨A, ⟨hA, v, rfl⟩, h⟩ := h
  have hq : ∀ r τ, r = ansPoints A v → RepM A τ → Q (some r) τ := fun r τ h1 h2 => h r τ fun v' e => by cases e; exact ⟨h1, h2⟩
  unfold ansPoints at hq
  refine ⟨Or.inl (Nat.le_refl 2), X1v_pointsTo_0 hG v σ ⟨⟨v, rfl⟩, fun x1 h1 => ⟨fun c => ?_, fun c => ?_⟩⟩⟩
  · obtain ⟨i, hi, rfl⟩ := r0_of (h1 v rfl) c
    rw [if_neg (bd_no hi (by decide)), nv_ix (by omega)] at hq
    refine ⟨A.1, hA.pre, fun s3 h3 => ⟨zi_in hi (by decide), fun x4 e4 => hq _ s3 ?_ (hA.work h3.1 h3.2.1 h3.2.2)⟩⟩
    rw [e4, nI_clamp (by omega), h3.2.2.lo hi]
  · rw [if_pos (r1_of (h1 v rfl) c)] at hq
    exact hq _ σ rfl hA
theorem zn_gt7 {v : Int32} (h : (7 : Int32) < v) : nI 8 ≤ v := zn_gtN (N := 7) (by decide) (Int32.not_le.mpr h)
theorem X1d_holds (G : Nat → mL → List mv → mS → Prop) (Q : Option Int32 → mS → Prop) (vs : List Int32) (σ : mS) (hG : mCl X1g_holds G Q) (h : X1t_holds vs σ Q) : (vs.length + 1 ≤ 3 ∨ (true = false ∧ vs.length ≤ 3)) ∧ G 0 (mL0 3 true vs) [] σ := by
  obtain ⟨A, ⟨hA, s, f, rfl⟩, h⟩ := h
  have hq : ∀ r τ, r = ansHolds A s f → RepM A τ → Q (some r) τ := fun r τ h1 h2 => h r τ fun v' s' e => by cases e; exact ⟨h1, h2⟩
  unfold ansHolds at hq
  refine ⟨Or.inl (Nat.le_refl 3), X1v_holds_0 hG s f σ ⟨fun c => ?_, fun c => ⟨fun d => ?_, fun d => ⟨⟨f, rfl⟩, fun x1 h1 => ⟨fun g => ?_, fun g => ?_⟩⟩⟩⟩⟩
  · rw [if_pos (Or.inl (Or.inl c))] at hq
    exact hq _ σ rfl hA
  · rw [if_pos (Or.inl (Or.inr (zn_gt7 d)))] at hq
    exact hq _ σ rfl hA
  · obtain ⟨i, hi, rfl⟩ := zn_leN (N := 7) (by decide) c (Int32.not_lt.mp d)
    obtain ⟨j, hj, rfl⟩ := r0_of (h1 f rfl) g
    rw [if_neg (fun q => q.elim (bd_no hi (by decide)) (bd_no hj (by decide))), nv_ix (by omega), nv_ix (by omega)] at hq
    rw [zn_ix2]
    refine ⟨A.1, hA.pre, fun s3 h3 => ⟨zi_in (by omega) (by decide), fun x4 e4 => hq _ s3 ?_ (hA.work h3.1 h3.2.1 h3.2.2)⟩⟩
    rw [e4, nI_clamp (by omega), h3.2.2.fn hi hj]
  · rw [if_pos (Or.inr (r1_of (h1 f rfl) g))] at hq
    exact hq _ σ rfl hA
theorem X1d_threadAt (G : Nat → mL → List mv → mS → Prop) (Q : Option Int32 → mS → Prop) (vs : List Int32) (σ : mS) (hG : mCl X1g_threadAt G Q) (h : X1t_threadAt vs σ Q) : (vs.length + 1 ≤ 2 ∨ (true = false ∧ vs.length ≤ 2)) ∧ G 0 (mL0 2 true vs) [] σ := by
  obtain ⟨A, ⟨hA, p, hp, rfl⟩, h⟩ := h
  have hl12 := hA.1.2.2.2.1
  have hq : Q (some (nI (thr A p))) σ := h _ fun p' hp' e => by
    cases zn_inj (by omega) (by omega) (List.cons.inj e).1
    rfl
  unfold thr at hq
  refine ⟨Or.inl (Nat.le_refl 2), X1v_threadAt_0 hG _ σ ⟨fun c => ?_, fun c => ?_⟩⟩
  · have h4 : 4 ≤ p := by
      rcases Nat.lt_or_ge p 4 with z | z
      · exact zge z (by decide) c
      · exact z
    rw [if_neg (by omega)] at hq
    rw [z_sub4 h4]
    refine ⟨zi_in (by omega) (by decide), fun x1 e1 => ?_⟩
    rw [nI_clamp (by omega), (hA.2.2.2.1.2 (p - 4) (by omega)).1] at e1
    rw [e1]
    exact hq
  · have h4 : p < 4 := by
      rcases Nat.lt_or_ge p 4 with z | z
      · exact z
      · exact absurd (nI_le z (by omega)) c
    rw [if_pos h4] at hq
    exact hq
/-- the lock of region r as the model puts it together, sites below n -/
noncomputable def lkn (A : AS) (q n : Nat) : Int32 := zmk (fun s => decide (msk A.1 (rg A q).2.1 = (1 : Int32) <<< (nI s &&& 31)) && A.2.1 s) n
theorem z_neg4 {p : Nat} (h : p < 4) : nI p - 4 < 0 := by
  have : ∀ p, p < 4 → nI p - 4 < 0 := by decide +kernel
  exact this p h
theorem z_or_assoc (a b c : Int32) : (a ||| b) ||| c = a ||| (b ||| c) := by
  refine b_ext fun i _ => ?_
  rw [b_or, b_or, b_or, b_or, Bool.or_assoc]
theorem z_or_0 (a : Int32) : a ||| 0 = a := by
  refine b_ext fun i _ => ?_
  rw [b_or, b_0, Bool.or_false]
theorem X1d_held (G : Nat → mL → List mv → mS → Prop) (Q : Option Int32 → mS → Prop) (vs : List Int32) (σ : mS) (hG : mCl X1g_held G Q) (h : X1t_held vs σ Q) : (vs.length + 1 ≤ 6 ∨ (true = false ∧ vs.length ≤ 6)) ∧ G 0 (mL0 6 true vs) [] σ := by
  obtain ⟨A, ⟨hA, p, rfl⟩, h⟩ := h
  have hl12 := hA.1.2.2.2.1
  have e17 := hA.2.2.2.1.1
  have hq : ∀ r τ, r = ansHeld A p → RepM A τ → Q (some r) τ := fun r τ h1 h2 => h r τ fun p' e => by cases e; exact ⟨h1, h2⟩
  unfold ansHeld at hq
  refine ⟨Or.inl (Nat.le_of_ble_eq_true rfl), X1v_held_0 hG p σ ⟨⟨p, _, rfl, hl12, e17⟩, fun x1 h1 => ⟨fun c => ?_, fun c => ?_⟩⟩⟩
  · obtain ⟨p, hp, rfl⟩ := r0_of (h1 p _ rfl hl12 e17) c
    rw [if_neg (bd_no hp (by omega)), nv_ix (by omega)] at hq
    refine ⟨A.1, hA.pre, fun υ h3 => ?_⟩
    have hA3 : RepM A υ := hA.work h3.1 h3.2.1 h3.2.2
    have hS := h3.2.2
    have hq : Q (some (heldm A p)) υ := hq _ υ rfl hA3
    have key := zup (α := Int32 × Option Nat) (N := 12) (H := fun i st => ∀ av : Int32, (∀ r, st.2 = some r → av = nI r) → (st.2 = none → av < 0) → G 23 [some (.inr 99), some (.inl (nI p)), some (.inl st.1), some (.inl av), some (.inl (nI i)), none] [] υ)
      (I := fun i st => heldL A (ancs A (12 - i) st.2) st.1 = heldm A p ∧ ∀ r, st.2 = some r → r < A.2.2.1.length)
      (fun st hst av _ _ => X1v_held_23 hG _ _ _ _ υ ⟨fun _ => by
        have h1 : heldL A [] st.1 = heldm A p := hst.1
        rw [← h1] at hq
        exact hq, fun c => zle (by decide) c⟩)
      (fun i st hi hst hn av hav1 hav2 => by
        obtain ⟨set, ro⟩ := st
        obtain ⟨h1, h2⟩ := hst
        dsimp only at h1 h2 hav1 hav2 ⊢
        obtain ⟨k, hk⟩ : ∃ k, 12 - i = k + 1 := ⟨11 - i, by omega⟩
        rw [hk] at h1
        refine X1v_held_23 hG _ _ _ _ υ ⟨fun c => zge hi (by decide) c, fun _ => ⟨fun c => ?_, fun c => ?_⟩⟩
        · cases ro with
          | none =>
            have h1 : set = heldm A p := h1
            rw [h1]
            exact hq
          | some r =>
            have := h2 r rfl
            rw [hav1 r rfl] at c
            exact absurd c (nI_pos (by omega))
        · cases ro with
          | none => exact absurd (hav2 rfl) c
          | some r =>
            have hr := h2 r rfl
            have hav := hav1 r rfl
            subst hav
            obtain ⟨a1, a2, a3⟩ := hA.1.2.2.2.2.2.1 r hr
            obtain ⟨b1, b2, b3⟩ := hA3.2.2.2.1.2 r hr
            have cr : (nI r).toNatClampNeg = r := nI_clamp (by omega)
            have hr12 := zi_in (show r < 12 by omega) (show 12 < 2 ^ 31 by decide)
            have h1 : heldL A (ancs A k (rg A r).2.2) (set ||| lkm A r) = heldm A p := h1
            have inner := zup (α := Unit) (N := 8) (H := fun s _ => G 37 [some (.inr 99), some (.inl (nI p)), some (.inl (set ||| lkn A r s)), some (.inl (nI r)), some (.inl (nI i)), some (.inl (nI s))] [] υ) (I := fun _ _ => True)
              (fun _ _ => X1v_held_37 hG _ _ _ _ _ υ ⟨fun _ => by
                rw [cr]
                refine ⟨hr12, fun x1 e1 => ?_⟩
                rw [b3] at e1
                have := hn (set ||| lkn A r 8, (rg A r).2.2) ⟨by rw [show 12 - (i + 1) = k by omega]; exact h1, fun r' e' => by have := a3 r' e'; omega⟩ x1 (fun r' e' => by
                  dsimp only at e'
                  rw [e1, e']
                  rfl) (fun e' => by
                  dsimp only at e'
                  rw [e1, e']
                  decide)
                rw [← nI_1] at this
                exact this, fun c => zle (by decide) c⟩)
              (fun s _ hs _ hn2 => by
                have hn2 := hn2 () trivial
                have hst : lkn A r (s + 1) = lkn A r s ||| (if (decide (msk A.1 (rg A r).2.1 = (1 : Int32) <<< (nI s &&& 31)) && A.2.1 s) = true then (1 : Int32) <<< (nI s &&& 31) else 0) := rfl
                rw [hst, ← z_or_assoc, ← nI_1] at hn2
                refine X1v_held_37 hG _ _ _ _ _ υ ⟨fun c => zge hs (by decide) c, fun _ => ?_⟩
                rw [cr]
                refine ⟨hr12, fun x2 e2 => ?_⟩
                rw [b2] at e2
                subst e2
                refine ⟨zi_in a2 (by decide), fun x3 e3 => ?_⟩
                rw [nI_clamp (by omega), hS.lo a2] at e3
                subst e3
                refine ⟨fun d => ?_, fun d => ⟨zi_in hs (by decide), fun x4 e4 => ?_⟩⟩
                · rw [decide_eq_false d, Bool.false_and, if_neg (by decide), z_or_0] at hn2
                  exact hn2
                · rw [nI_clamp (by omega), hA3.2.2.1 s hs] at e4
                  rw [decide_eq_true d, Bool.true_and] at hn2
                  cases ho : A.2.1 s
                  · rw [ho] at e4 hn2
                    rw [if_neg (by decide), z_or_0] at hn2
                    exact ⟨fun _ => hn2, fun q => absurd e4 q⟩
                  · rw [ho] at e4 hn2
                    rw [if_pos rfl] at hn2
                    exact ⟨fun q => absurd (e4.symm.trans q) (by decide), fun _ => hn2⟩)
            have := inner 0 () (by omega) trivial
            have e0 : lkn A r 0 = 0 := rfl
            rw [e0, z_or_0] at this
            exact this)
    rcases Nat.lt_or_ge p 4 with h4 | h4
    · refine key 0 (0, none) (by omega) ⟨?_, fun r e => by cases e⟩ (nI p - 4) (fun r e => by cases e) (fun _ => z_neg4 h4)
      unfold heldm
      rw [if_pos h4]
      rfl
    · refine key 0 (0, some (p - 4)) (by omega) ⟨?_, fun r e => by cases e; omega⟩ (nI p - 4) (fun r e => by cases e; exact z_sub4 h4) (fun e => by cases e)
      unfold heldm
      rw [if_neg (by omega)]
  · rw [if_pos (r1_of (h1 p _ rfl hl12 e17) c)] at hq
    exact hq _ σ rfl hA
theorem X1d_race (G : Nat → mL → List mv → mS → Prop) (Q : Option Int32 → mS → Prop) (vs : List Int32) (σ : mS) (hG : mCl X1g_race G Q) (h : X1t_race vs σ Q) : (vs.length + 1 ≤ 3 ∨ (true = false ∧ vs.length ≤ 3)) ∧ G 0 (mL0 3 true vs) [] σ := by
  obtain ⟨A, ⟨hA, i, j, rfl⟩, h⟩ := h
  have hl12 := hA.1.2.2.2.1
  have hl16 := hA.1.2.2.2.2.1
  have e15 := hA.2.2.2.2.1.1
  have hq : ∀ r τ, r = ansRace A i j → RepM A τ → Q (some r) τ := fun r τ h1 h2 => h r τ fun i' j' e => by cases e; exact ⟨h1, h2⟩
  have hbad : (bdN A.2.2.2.length i ∨ bdN A.2.2.2.length j) → ((0 : Int32) = 0 ∨ (0 : Int32) = 1) ∧ Q (some 0) σ := fun hb => ⟨Or.inl rfl, hq 0 σ (by unfold ansRace; rw [if_pos hb]) hA⟩
  refine ⟨Or.inl (Nat.le_refl 3), X1v_race_0 hG i j σ ⟨fun c => hbad (Or.inl (Or.inl c)), fun c1 => ⟨fun c => hbad (Or.inl (Or.inr (by rw [← e15]; exact c))), fun c2 => ⟨fun c => hbad (Or.inr (Or.inl c)), fun c3 => ⟨fun c4 => ?_, fun c => hbad (Or.inr (Or.inr (by rw [← e15]; exact zn_nlt c)))⟩⟩⟩⟩⟩
  rw [e15] at c2 c4
  obtain ⟨i, hi, rfl⟩ := zn_ix (by omega) c1 c2
  obtain ⟨j, hj, rfl⟩ := zn_ix (N := A.2.2.2.length) (by omega) c3 (fun q => absurd c4 (Int32.not_lt.mpr q))
  unfold ansRace at hq
  rw [if_neg (fun q => q.elim (bd_no hi (by omega)) (bd_no hj (by omega))), nv_ix (by omega), nv_ix (by omega)] at hq
  have hq1 : conf A i j = true → ∀ τ, RepM A τ → ((1 : Int32) = 0 ∨ (1 : Int32) = 1) ∧ Q (some 1) τ := fun hc τ hτ => ⟨Or.inr rfl, hq 1 τ (by rw [if_pos hc]) hτ⟩
  have hq0 : ¬ conf A i j = true → ∀ τ, RepM A τ → ((0 : Int32) = 0 ∨ (0 : Int32) = 1) ∧ Q (some 0) τ := fun hc τ hτ => ⟨Or.inl rfl, hq 0 τ (by rw [if_neg hc]) hτ⟩
  rw [conf_iff] at hq1 hq0
  obtain ⟨pi, vi, fi⟩ := hA.1.2.2.2.2.2.2 i hi
  obtain ⟨pj, vj, fj⟩ := hA.1.2.2.2.2.2.2 j hj
  have hac : ∀ τ, RepM A τ → τ 16 i = nI (ac A i).1 ∧ τ 16 j = nI (ac A j).1 ∧ τ 17 i = nI (ac A i).2.1 ∧ τ 17 j = nI (ac A j).2.1 := fun τ hτ => ⟨(hτ.2.2.2.2.1.2 i hi).1, (hτ.2.2.2.2.1.2 j hj).1, (hτ.2.2.2.2.1.2 i hi).2.1, (hτ.2.2.2.2.1.2 j hj).2.1⟩
  obtain ⟨i1, i2, i3, i4⟩ := hA.2.2.2.2.1.2 i hi
  obtain ⟨j1, j2, j3, j4⟩ := hA.2.2.2.2.1.2 j hj
  have ci : (nI i).toNatClampNeg = i := nI_clamp (by omega)
  have cj : (nI j).toNatClampNeg = j := nI_clamp (by omega)
  have ni := zi_in (show i < 16 by omega) (show 16 < 2 ^ 31 by decide)
  have nj := zi_in (show j < 16 by omega) (show 16 < 2 ^ 31 by decide)
  have ti := thr_lt hA.1 pi
  have tj := thr_lt hA.1 pj
  have hheld : ∀ p, p < 4 + A.2.2.1.length → ansHeld A (nI p) = heldm A p := fun p hp => by
    unfold ansHeld
    rw [if_neg (bd_no hp (by omega)), nv_ix (by omega)]
  rw [ci, cj]
  refine ⟨ni, fun x1 e1 => ?_⟩
  rw [i1] at e1
  subst e1
  refine ⟨A, ⟨hA, _, pi, rfl⟩, fun x3 h3 => ⟨nj, fun x4 e4 => ?_⟩⟩
  rw [j1] at e4
  subst e4
  refine ⟨A, ⟨hA, _, pj, rfl⟩, fun x6 h6 => ?_⟩
  have h3 := h3 _ pi rfl
  have h6 := h6 _ pj rfl
  subst h3 h6
  have fin : ((ac A i).2.2.1 = (ac A j).2.2.1) → ¬ thr A (ac A i).1 = thr A (ac A j).1 → ((ac A i).2.2.2 = true ∨ (ac A j).2.2.2 = true) →
      (∃ g10 : Gam, X1p_workOut g10 [] σ ∧ ∀ s11 : mS, X1q_workOut g10 [] σ s11 → (vp_in (nI i) 16 ∧ ∀ x12 : Int32, x12 = s11 17 i → (vp_in x12 12 ∧ ∀ x13 : Int32, x13 = s11 21 x12.toNatClampNeg → (vp_in (nI j) 16 ∧ ∀ x14 : Int32, x14 = s11 17 j → (vp_in x14 12 ∧ ∀ x15 : Int32, x15 = s11 21 x14.toNatClampNeg → ((¬ (x13 &&& x15) = (0 : Int32) → (vp_in (nI i) 16 ∧ ∀ x16 : Int32, x16 = s11 16 i → (∃ g17 : AS, X1p_held g17 [x16] s11 ∧ ∀ (x18 : Int32) (s19 : mS), X1q_held g17 [x16] s11 x18 s19 → (vp_in (nI j) 16 ∧ ∀ x20 : Int32, x20 = s19 16 j → (∃ g21 : AS, X1p_held g21 [x20] s19 ∧ ∀ (x22 : Int32) (s23 : mS), X1q_held g21 [x20] s19 x22 s23 → ((¬ (x18 &&& x22) = (0 : Int32) → (((0 : Int32) = 0 ∨ (0 : Int32) = 1) ∧ Q (some 0) s23)) ∧ ((x18 &&& x22) = (0 : Int32) → (((1 : Int32) = 0 ∨ (1 : Int32) = 1) ∧ Q (some 1) s23)))))))) ∧ ((x13 &&& x15) = (0 : Int32) → (((0 : Int32) = 0 ∨ (0 : Int32) = 1) ∧ Q (some 0) s11)))))))) := by
    intro hf ht hw
    refine ⟨A.1, hA.pre, fun s11 h11 => ?_⟩
    have hA11 : RepM A s11 := hA.work h11.1 h11.2.1 h11.2.2
    have hS := h11.2.2
    obtain ⟨k1, k2, k3, k4⟩ := hac s11 hA11
    refine ⟨ni, fun x12 e12 => ?_⟩
    rw [k3] at e12
    subst e12
    refine ⟨zi_in vi (by decide), fun x13 e13 => ⟨nj, fun x14 e14 => ?_⟩⟩
    rw [nI_clamp (by omega), hS.lo vi] at e13
    rw [k4] at e14
    subst e13 e14
    refine ⟨zi_in vj (by decide), fun x15 e15 => ?_⟩
    rw [nI_clamp (by omega), hS.lo vj] at e15
    subst e15
    refine ⟨fun d => ⟨ni, fun x16 e16 => ?_⟩, fun d => hq0 (fun q => q.2.2.2.1 d) s11 hA11⟩
    rw [k1] at e16
    subst e16
    refine ⟨A, ⟨hA11, _, rfl⟩, fun x18 s19 h18 => ?_⟩
    obtain ⟨h18, hA19⟩ := h18 _ rfl
    rw [hheld _ pi] at h18
    obtain ⟨l1, l2, l3, l4⟩ := hac s19 hA19
    refine ⟨nj, fun x20 e20 => ?_⟩
    rw [l2] at e20
    subst e20
    refine ⟨A, ⟨hA19, _, rfl⟩, fun x22 s23 h22 => ?_⟩
    obtain ⟨h22, hA23⟩ := h22 _ rfl
    rw [hheld _ pj] at h22
    subst h18 h22
    exact ⟨fun z => hq0 (fun q => z q.2.2.2.2) s23 hA23, fun z => hq1 ⟨ht, hf, hw, d, z⟩ s23 hA23⟩
  refine ⟨fun c => hq0 (fun q => q.1 (zn_inj (by omega) (by omega) c)) σ hA, fun c => ⟨ni, fun x7 e7 => ⟨nj, fun x8 e8 => ?_⟩⟩⟩
  rw [i3] at e7
  rw [j3] at e8
  subst e7 e8
  have hth : ¬ thr A (ac A i).1 = thr A (ac A j).1 := fun q => c (by rw [q])
  refine ⟨fun d => hq0 (fun q => d (by rw [q.2.1])) σ hA, fun d => ⟨ni, fun x9 e9 => ?_⟩⟩
  have hf := zn_inj (show (ac A i).2.2.1 < 2 ^ 31 by omega) (by omega) d
  rw [i4] at e9
  refine ⟨fun g => fin hf hth (Or.inl ?_), fun g => ⟨nj, fun x20 e20 => ?_⟩⟩
  · cases hb : (ac A i).2.2.2
    · rw [hb] at e9
      exact absurd e9 g
    · rfl
  · have hwi : (ac A i).2.2.2 = false := by
      cases hb : (ac A i).2.2.2
      · rfl
      · rw [hb] at e9
        rw [e9] at g
        exact absurd g (by decide)
    rw [j4] at e20
    refine ⟨fun g2 => fin hf hth (Or.inr ?_), fun g2 => hq0 (fun q => ?_) σ hA⟩
    · cases hb : (ac A j).2.2.2
      · rw [hb] at e20
        exact absurd e20 g2
      · rfl
    · have hwj : (ac A j).2.2.2 = false := by
        cases hb : (ac A j).2.2.2
        · rfl
        · rw [hb] at e20
          rw [e20] at g2
          exact absurd g2 (by decide)
      rcases q.2.2.1 with z | z
      · rw [hwi] at z; cases z
      · rw [hwj] at z; cases z
theorem X1d_races (G : Nat → mL → List mv → mS → Prop) (Q : Option Int32 → mS → Prop) (vs : List Int32) (σ : mS) (hG : mCl X1g_races G Q) (h : X1t_races vs σ Q) : (vs.length + 1 ≤ 4 ∨ (true = false ∧ vs.length ≤ 4)) ∧ G 0 (mL0 4 true vs) [] σ := by
  obtain ⟨A, ⟨hA, rfl⟩, h⟩ := h
  have hl16 := hA.1.2.2.2.2.1
  have hq : ∀ τ, RepM A τ → Q (some (nI (rcs A A.2.2.2.length))) τ := fun τ hτ => h _ τ ⟨rfl, hτ⟩
  have key := zup (α := mS) (N := A.2.2.2.length) (H := fun i υ => G 4 [some (.inr 99), some (.inl (nI (rcs A i))), some (.inl (nI i)), none] [] υ) (I := fun _ υ => RepM A υ)
    (fun υ hυ => X1v_races_4 hG _ _ υ ⟨fun _ => hq υ hυ, fun c => by rw [hυ.2.2.2.2.1.1] at c; exact zle (by omega) c⟩)
    (fun i υ hi hυ hn => by
      refine X1v_races_4 hG _ _ υ ⟨fun c => by rw [hυ.2.2.2.2.1.1] at c; exact zge hi (by omega) c, fun _ => ?_⟩
      have inner := zup (α := mS) (N := A.2.2.2.length) (H := fun j υ => G 16 [some (.inr 99), some (.inl (nI (rcs A i + fb_ct (fun j => decide (i < j) && conf A i j) j))), some (.inl (nI i)), some (.inl (nI j))] [] υ) (I := fun j υ => i < j ∧ RepM A υ)
        (fun υ ⟨_, hυ⟩ => X1v_races_16 hG _ _ _ υ ⟨fun _ => by
          have := hn υ hυ
          rw [← nI_1] at this
          exact this, fun c => by rw [hυ.2.2.2.2.1.1] at c; exact zle (by omega) c⟩)
        (fun j υ hj ⟨hij, hυ⟩ hn2 => by
          refine X1v_races_16 hG _ _ _ υ ⟨fun c => by rw [hυ.2.2.2.2.1.1] at c; exact zge hj (by omega) c, fun _ => ⟨A, ⟨hυ, _, _, rfl⟩, fun x2 s3 h2 => ?_⟩⟩
          obtain ⟨h2, hs3⟩ := h2 _ _ rfl
          unfold ansRace at h2
          rw [if_neg (fun q => q.elim (bd_no hi (by omega)) (bd_no hj (by omega))), nv_ix (by omega), nv_ix (by omega)] at h2
          have hn2 := hn2 s3 ⟨by omega, hs3⟩
          rw [fb_ct_succ, decide_eq_true hij, ← nI_1] at hn2
          subst h2
          cases hc : conf A i j
          · rw [hc] at hn2
            exact ⟨fun _ => hn2, fun q => absurd rfl q⟩
          · rw [hc] at hn2
            refine ⟨fun q => absurd q (by decide), fun _ => ?_⟩
            rw [nI_1]
            exact hn2)
      have h0 : fb_ct (fun j => decide (i < j) && conf A i j) (i + 1) = 0 := fb_ct_zero.mpr fun k hk => by
        rw [decide_eq_false (by omega)]
        rfl
      have := inner (i + 1) υ (by omega) ⟨by omega, hυ⟩
      rw [h0, Nat.add_zero, ← nI_1] at this
      exact this)
  exact ⟨Or.inl (Nat.le_of_ble_eq_true rfl), X1v_races_0 hG σ (key 0 σ (by omega) hA)⟩
end
section
/-! printed by gen/run.py: programs and verification conditions -/
set_option maxRecDepth 100000
def X1t_step : mT := mTv X1p_step X1q_step
def X1t_allSteps : mT := mGv X1p_allSteps X1q_allSteps
def X1t_beyond : mT := mTp X1p_beyond X1q_beyond
def X1t_allWays : mT := mGv X1p_allWays X1q_allWays
def X1t_threadsAround : mT := mGp X1p_threadsAround X1q_threadsAround
def X1t_danger : mT := mGi X1p_danger X1q_danger
def X1g_step : mP := (X1b_step, flX1, fdX1, none, [], [(3, [true, true, true, true, true, false])])
theorem X1v_step_0 {G : Nat → mL → List mv → mS → Prop} {Q : Option Int32 → mS → Prop} (hG : mCl X1g_step G Q) (v1 v2 v3 : Int32) (σ : mS)
    (h : G 3 [some (.inr 99), some (.inl v1), some (.inl v2), some (.inl v3), some (.inl 0), none] [] σ) : G 0 [some (.inr 99), some (.inl v1), some (.inl v2), some (.inl v3), none, none] [] σ := hG 3 0 _ _ _ h
theorem X1v_step_3 {G : Nat → mL → List mv → mS → Prop} {Q : Option Int32 → mS → Prop} (hG : mCl X1g_step G Q) (v1 v2 v3 v4 : Int32) (σ : mS)
    (h : (((8 : Int32) ≤ v4 → Q none σ) ∧ (¬ (8 : Int32) ≤ v4 → (vp_in v2 12 ∧ ∀ x1 : Int32, x1 = σ 21 v2.toNatClampNeg → ((¬ ((x1 >>> (v4 &&& 31)) &&& 1) = (1 : Int32) → G 3 [some (.inr 99), some (.inl v1), some (.inl v2), some (.inl v3), some (.inl (v4 + 1)), none] [] σ) ∧ (((x1 >>> (v4 &&& 31)) &&& 1) = (1 : Int32) → (vp_in v4 8 ∧ ∀ x2 : Int32, x2 = σ 10 v4.toNatClampNeg → ((x2 = (0 : Int32) → (vp_in v3 12 ∧ ∀ x3 : Int32, x3 = σ 21 v3.toNatClampNeg → (vp_in ((v1 * 8) + v4) 32 ∧ ∀ x4 : Int32, x4 = σ 23 ((v1 * 8) + v4).toNatClampNeg → (vp_in ((v1 * 8) + v4) 32 ∧ G 3 [some (.inr 99), some (.inl v1), some (.inl v2), some (.inl v3), some (.inl (v4 + 1)), none] [] (mU σ 23 ((v1 * 8) + v4).toNatClampNeg (x4 ||| x3)))))) ∧ (¬ x2 = (0 : Int32) → (vp_in v3 12 ∧ ∀ x5 : Int32, x5 = σ 21 v3.toNatClampNeg → (vp_in ((v1 * 8) + v4) 32 ∧ ∀ x6 : Int32, x6 = σ 23 ((v1 * 8) + v4).toNatClampNeg → (vp_in ((v1 * 8) + v4) 32 ∧ G 3 [some (.inr 99), some (.inl v1), some (.inl v2), some (.inl v3), some (.inl (v4 + 1)), none] [] (mU σ 23 ((v1 * 8) + v4).toNatClampNeg (x6 ||| (x5 &&& (((1 : Int32) <<< (v4 &&& 31)) ^^^ (-1))))))))))))))))) : G 3 [some (.inr 99), some (.inl v1), some (.inl v2), some (.inl v3), some (.inl v4), none] [] σ := hG 51 3 _ _ _ h
def X1g_allSteps : mP := (X1b_allSteps, flX1, fdX1, none, [(122, 3, true, X1t_step)], [(2, [true, true, false, false]), (23, [true, true, false, false]), (40, [true, true, true, true])])
theorem X1v_allSteps_0 {G : Nat → mL → List mv → mS → Prop} {Q : Option Int32 → mS → Prop} (hG : mCl X1g_allSteps G Q) (σ : mS)
    (h : G 2 [some (.inr 99), some (.inl 0), none, none] [] σ) : G 0 [some (.inr 99), none, none, none] [] σ := hG 3 0 _ _ _ h
theorem X1v_allSteps_2 {G : Nat → mL → List mv → mS → Prop} {Q : Option Int32 → mS → Prop} (hG : mCl X1g_allSteps G Q) (v1 : Int32) (σ : mS)
    (h : (((32 : Int32) ≤ v1 → G 23 [some (.inr 99), some (.inl 0), none, none] [] σ) ∧ (¬ (32 : Int32) ≤ v1 → (vp_in v1 32 ∧ G 2 [some (.inr 99), some (.inl (v1 + 1)), none, none] [] (mU σ 23 v1.toNatClampNeg 0))))) : G 2 [some (.inr 99), some (.inl v1), none, none] [] σ := hG 11 2 _ _ _ h
theorem X1v_allSteps_23 {G : Nat → mL → List mv → mS → Prop} {Q : Option Int32 → mS → Prop} (hG : mCl X1g_allSteps G Q) (v1 : Int32) (σ : mS)
    (h : (((σ 11 0) ≤ v1 → Q none σ) ∧ (¬ (σ 11 0) ≤ v1 → (vp_in v1 12 ∧ ∀ x1 : Int32, x1 = σ 14 v1.toNatClampNeg → G 40 [some (.inr 99), some (.inl v1), some (.inl x1), some (.inl 0)] [] σ)))) : G 23 [some (.inr 99), some (.inl v1), none, none] [] σ := hG 12 23 _ _ _ h
theorem X1v_allSteps_40 {G : Nat → mL → List mv → mS → Prop} {Q : Option Int32 → mS → Prop} (hG : mCl X1g_allSteps G Q) (v1 v2 v3 : Int32) (σ : mS)
    (h : (((12 : Int32) ≤ v3 → G 23 [some (.inr 99), some (.inl (v1 + 1)), none, none] [] σ) ∧ (¬ (12 : Int32) ≤ v3 → ((v2 < (0 : Int32) → G 23 [some (.inr 99), some (.inl (v1 + 1)), none, none] [] σ) ∧ (¬ v2 < (0 : Int32) → (vp_in v1 12 ∧ ∀ x1 : Int32, x1 = σ 12 v1.toNatClampNeg → (vp_in v2 12 ∧ ∀ x2 : Int32, x2 = σ 13 v2.toNatClampNeg → (vp_in v1 12 ∧ ∀ x3 : Int32, x3 = σ 13 v1.toNatClampNeg → (X1p_step [x1, x2, x3] σ ∧ ∀ s4 : mS, X1q_step [x1, x2, x3] σ s4 → (vp_in v2 12 ∧ ∀ x5 : Int32, x5 = s4 14 v2.toNatClampNeg → G 40 [some (.inr 99), some (.inl v1), some (.inl x5), some (.inl (v3 + 1))] [] s4)))))))))) : G 40 [some (.inr 99), some (.inl v1), some (.inl v2), some (.inl v3)] [] σ := hG 27 40 _ _ _ h
def X1g_beyond : mP := (X1b_beyond, flX1, fdX1, some .int, [], [(4, [true, true, true, true])])
theorem X1v_beyond_0 {G : Nat → mL → List mv → mS → Prop} {Q : Option Int32 → mS → Prop} (hG : mCl X1g_beyond G Q) (v1 : Int32) (σ : mS)
    (h : G 4 [some (.inr 99), some (.inl v1), some (.inl 0), some (.inl 0)] [] σ) : G 0 [some (.inr 99), some (.inl v1), none, none] [] σ := hG 5 0 _ _ _ h
theorem X1v_beyond_4 {G : Nat → mL → List mv → mS → Prop} {Q : Option Int32 → mS → Prop} (hG : mCl X1g_beyond G Q) (v1 v2 v3 : Int32) (σ : mS)
    (h : (((32 : Int32) ≤ v3 → Q (some v2) σ) ∧ (¬ (32 : Int32) ≤ v3 → (¬ (8 : Int32) = 0 ∧ ((¬ ((v1 >>> ((v3 - v3 / 8 * 8) &&& 31)) &&& 1) = (1 : Int32) → G 4 [some (.inr 99), some (.inl v1), some (.inl v2), some (.inl (v3 + 1))] [] σ) ∧ (((v1 >>> ((v3 - v3 / 8 * 8) &&& 31)) &&& 1) = (1 : Int32) → (vp_in v3 32 ∧ ∀ x1 : Int32, x1 = σ 23 v3.toNatClampNeg → G 4 [some (.inr 99), some (.inl v1), some (.inl (v2 ||| x1)), some (.inl (v3 + 1))] [] σ))))))) : G 4 [some (.inr 99), some (.inl v1), some (.inl v2), some (.inl v3)] [] σ := hG 22 4 _ _ _ h
def X1g_allWays : mP := (X1b_allWays, flX1, fdX1, none, [(126, 1, true, X1t_beyond)], [(2, [true, true, false]), (25, [true, true, false]), (33, [true, true, true])])
theorem X1v_allWays_0 {G : Nat → mL → List mv → mS → Prop} {Q : Option Int32 → mS → Prop} (hG : mCl X1g_allWays G Q) (σ : mS)
    (h : G 2 [some (.inr 99), some (.inl 0), none] [] σ) : G 0 [some (.inr 99), none, none] [] σ := hG 3 0 _ _ _ h
theorem X1v_allWays_2 {G : Nat → mL → List mv → mS → Prop} {Q : Option Int32 → mS → Prop} (hG : mCl X1g_allWays G Q) (v1 : Int32) (σ : mS)
    (h : (((8 : Int32) ≤ v1 → G 25 [some (.inr 99), some (.inl 0), none] [] σ) ∧ (¬ (8 : Int32) ≤ v1 → (vp_in v1 8 ∧ G 2 [some (.inr 99), some (.inl (v1 + 1)), none] [] (mU σ 24 v1.toNatClampNeg ((1 : Int32) <<< (v1 &&& 31))))))) : G 2 [some (.inr 99), some (.inl v1), none] [] σ := hG 13 2 _ _ _ h
theorem X1v_allWays_25 {G : Nat → mL → List mv → mS → Prop} {Q : Option Int32 → mS → Prop} (hG : mCl X1g_allWays G Q) (v1 : Int32) (σ : mS)
    (h : (((8 : Int32) ≤ v1 → Q none σ) ∧ (¬ (8 : Int32) ≤ v1 → G 33 [some (.inr 99), some (.inl v1), some (.inl 0)] [] σ))) : G 25 [some (.inr 99), some (.inl v1), none] [] σ := hG 6 25 _ _ _ h
theorem X1v_allWays_33 {G : Nat → mL → List mv → mS → Prop} {Q : Option Int32 → mS → Prop} (hG : mCl X1g_allWays G Q) (v1 v2 : Int32) (σ : mS)
    (h : (((8 : Int32) ≤ v2 → G 25 [some (.inr 99), some (.inl (v1 + 1)), none] [] σ) ∧ (¬ (8 : Int32) ≤ v2 → (vp_in v2 8 ∧ ∀ x1 : Int32, x1 = σ 24 v2.toNatClampNeg → (vp_in v2 8 ∧ ∀ x2 : Int32, x2 = σ 24 v2.toNatClampNeg → (X1p_beyond [x2] σ ∧ ∀ x3 : Int32, X1q_beyond [x2] σ x3 → (vp_in v2 8 ∧ G 33 [some (.inr 99), some (.inl v1), some (.inl (v2 + 1))] [] (mU σ 24 v2.toNatClampNeg (x1 ||| x3))))))))) : G 33 [some (.inr 99), some (.inl v1), some (.inl v2)] [] σ := hG 21 33 _ _ _ h
def X1g_threadsAround : mP := (X1b_threadsAround, flX1, fdX1, some .int, [(78, 1, true, X1t_size)], [(4, [true, true, true, true, false, false]), (13, [true, true, true, true, true, false])])
theorem X1v_threadsAround_0 {G : Nat → mL → List mv → mS → Prop} {Q : Option Int32 → mS → Prop} (hG : mCl X1g_threadsAround G Q) (v1 : Int32) (σ : mS)
    (h : G 4 [some (.inr 99), some (.inl v1), some (.inl 0), some (.inl 0), none, none] [] σ) : G 0 [some (.inr 99), some (.inl v1), none, none, none, none] [] σ := hG 5 0 _ _ _ h
theorem X1v_threadsAround_4 {G : Nat → mL → List mv → mS → Prop} {Q : Option Int32 → mS → Prop} (hG : mCl X1g_threadsAround G Q) (v1 v2 v3 : Int32) (σ : mS)
    (h : (((32 : Int32) ≤ v3 → (X1p_size [v2] σ ∧ ∀ x1 : Int32, X1q_size [v2] σ x1 → Q (some x1) σ)) ∧ (¬ (32 : Int32) ≤ v3 → G 13 [some (.inr 99), some (.inl v1), some (.inl v2), some (.inl v3), some (.inl 0), none] [] σ))) : G 4 [some (.inr 99), some (.inl v1), some (.inl v2), some (.inl v3), none, none] [] σ := hG 7 4 _ _ _ h
theorem X1v_threadsAround_13 {G : Nat → mL → List mv → mS → Prop} {Q : Option Int32 → mS → Prop} (hG : mCl X1g_threadsAround G Q) (v1 v2 v3 v4 : Int32) (σ : mS)
    (h : (((8 : Int32) ≤ v4 → G 4 [some (.inr 99), some (.inl v1), some (.inl v2), some (.inl (v3 + 1)), none, none] [] σ) ∧ (¬ (8 : Int32) ≤ v4 → (vp_in v3 32 ∧ ∀ x1 : Int32, x1 = σ 23 v3.toNatClampNeg → ((¬ ((x1 >>> (v4 &&& 31)) &&& 1) = (1 : Int32) → (((0 : Int32) = (0 : Int32) → G 13 [some (.inr 99), some (.inl v1), some (.inl v2), some (.inl v3), some (.inl (v4 + 1)), none] [] σ) ∧ (¬ (0 : Int32) = (0 : Int32) → (vp_in v1 8 ∧ ∀ x2 : Int32, x2 = σ 24 v1.toNatClampNeg → (¬ (8 : Int32) = 0 ∧ ((¬ ((x2 >>> ((v3 - v3 / 8 * 8) &&& 31)) &&& 1) = (1 : Int32) → G 13 [some (.inr 99), some (.inl v1), some (.inl v2), some (.inl v3), some (.inl (v4 + 1)), none] [] σ) ∧ (((x2 >>> ((v3 - v3 / 8 * 8) &&& 31)) &&& 1) = (1 : Int32) → (vp_in v4 8 ∧ ∀ x3 : Int32, x3 = σ 24 v4.toNatClampNeg → ((¬ ((x3 >>> (v1 &&& 31)) &&& 1) = (1 : Int32) → G 13 [some (.inr 99), some (.inl v1), some (.inl v2), some (.inl v3), some (.inl (v4 + 1)), none] [] σ) ∧ (((x3 >>> (v1 &&& 31)) &&& 1) = (1 : Int32) → (¬ (8 : Int32) = 0 ∧ G 13 [some (.inr 99), some (.inl v1), some (.inl (v2 ||| ((1 : Int32) <<< ((v3 / 8) &&& 31)))), some (.inl v3), some (.inl (v4 + 1)), none] [] σ))))))))))) ∧ (((x1 >>> (v4 &&& 31)) &&& 1) = (1 : Int32) → (((1 : Int32) = (0 : Int32) → G 13 [some (.inr 99), some (.inl v1), some (.inl v2), some (.inl v3), some (.inl (v4 + 1)), none] [] σ) ∧ (¬ (1 : Int32) = (0 : Int32) → (vp_in v1 8 ∧ ∀ x4 : Int32, x4 = σ 24 v1.toNatClampNeg → (¬ (8 : Int32) = 0 ∧ ((¬ ((x4 >>> ((v3 - v3 / 8 * 8) &&& 31)) &&& 1) = (1 : Int32) → G 13 [some (.inr 99), some (.inl v1), some (.inl v2), some (.inl v3), some (.inl (v4 + 1)), none] [] σ) ∧ (((x4 >>> ((v3 - v3 / 8 * 8) &&& 31)) &&& 1) = (1 : Int32) → (vp_in v4 8 ∧ ∀ x5 : Int32, x5 = σ 24 v4.toNatClampNeg → ((¬ ((x5 >>> (v1 &&& 31)) &&& 1) = (1 : Int32) → G 13 [some (.inr 99), some (.inl v1), some (.inl v2), some (.inl v3), some (.inl (v4 + 1)), none] [] σ) ∧ (((x5 >>> (v1 &&& 31)) &&& 1) = (1 : Int32) → (¬ (8 : Int32) = 0 ∧ G 13 [some (.inr 99), some (.inl v1), some (.inl (v2 ||| ((1 : Int32) <<< ((v3 / 8) &&& 31)))), some (.inl v3), some (.inl (v4 + 1)), none] [] σ)))))))))))))))) : G 13 [some (.inr 99), some (.inl v1), some (.inl v2), some (.inl v3), some (.inl v4), none] [] σ := hG 51 13 _ _ _ h
def X1g_danger : mP := (X1b_danger, flX1, fdX1, some .int, [(97, 0, true, X1t_workOut), (129, 0, true, X1t_allSteps), (132, 0, true, X1t_allWays), (135, 1, true, X1t_threadsAround)], [(16, [true, true, true])])
theorem X1v_danger_0 {G : Nat → mL → List mv → mS → Prop} {Q : Option Int32 → mS → Prop} (hG : mCl X1g_danger G Q) (σ : mS)
    (h : (∃ g1 : Gam, X1p_workOut g1 [] σ ∧ ∀ s2 : mS, X1q_workOut g1 [] σ s2 → (∃ g3 : AS, X1p_allSteps g3 [] s2 ∧ ∀ s4 : mS, X1q_allSteps g3 [] s2 s4 → (∃ g5 : AS, X1p_allWays g5 [] s4 ∧ ∀ s6 : mS, X1q_allWays g5 [] s4 s6 → G 16 [some (.inr 99), some (.inl 0), some (.inl 0)] [] s6)))) : G 0 [some (.inr 99), none, none] [] σ := hG 11 0 _ _ _ h
theorem X1v_danger_16 {G : Nat → mL → List mv → mS → Prop} {Q : Option Int32 → mS → Prop} (hG : mCl X1g_danger G Q) (v1 v2 : Int32) (σ : mS)
    (h : (((8 : Int32) ≤ v2 → Q (some v1) σ) ∧ (¬ (8 : Int32) ≤ v2 → (∃ g1 : AS, X1p_threadsAround g1 [v2] σ ∧ ∀ x2 : Int32, X1q_threadsAround g1 [v2] σ x2 → ((x2 ≤ (1 : Int32) → G 16 [some (.inr 99), some (.inl v1), some (.inl (v2 + 1))] [] σ) ∧ (¬ x2 ≤ (1 : Int32) → G 16 [some (.inr 99), some (.inl (v1 ||| ((1 : Int32) <<< (v2 &&& 31)))), some (.inl (v2 + 1))] [] σ)))))) : G 16 [some (.inr 99), some (.inl v1), some (.inl v2)] [] σ := hG 17 16 _ _ _ h
end
section
/-! the model's lock order: step, allSteps, beyond, allWays, threadsAround, danger -/
set_option maxRecDepth 100000
theorem X1d_step (G : Nat → mL → List mv → mS → Prop) (Q : Option Int32 → mS → Prop) (vs : List Int32) (σ : mS) (hG : mCl X1g_step G Q) (h : X1t_step vs σ Q) : (vs.length + 1 ≤ 6 ∨ (true = false ∧ vs.length ≤ 6)) ∧ G 0 (mL0 6 true vs) [] σ := by
  obtain ⟨⟨th, w, v, hth, hw, hv, rfl⟩, h⟩ := h
  have hq : ∀ τ, (∀ k, k ≠ 23 → τ k = σ k) → (∀ t a b, t < 4 → a < 8 → (bt (τ 23 (t * 8 + a)) b = true ↔ (bt (σ 23 (t * 8 + a)) b = true ∨ (t = th ∧ bt (σ 21 w) a = true ∧ bt (σ 21 v) b = true ∧ ¬ (a = b ∧ ¬ σ 10 a = 0))))) → Q none τ := fun τ h1 h2 => h τ fun th' w' v' _ _ _ e => by
    obtain ⟨e1, e2⟩ := List.cons.inj e
    obtain ⟨e2, e3⟩ := List.cons.inj e2
    obtain ⟨e3, -⟩ := List.cons.inj e3
    cases zn_inj (by omega) (by omega) e1
    cases zn_inj (by omega) (by omega) e2
    cases zn_inj (by omega) (by omega) e3
    exact ⟨h1, h2⟩
  have key := zup (α := mS) (N := 8) (H := fun s υ => G 3 [some (.inr 99), some (.inl (nI th)), some (.inl (nI w)), some (.inl (nI v)), some (.inl (nI s)), none] [] υ)
    (I := fun s υ => (∀ k, k ≠ 23 → υ k = σ k) ∧ ∀ t a b, t < 4 → a < 8 → (bt (υ 23 (t * 8 + a)) b = true ↔ (bt (σ 23 (t * 8 + a)) b = true ∨ (a < s ∧ t = th ∧ bt (σ 21 w) a = true ∧ bt (σ 21 v) b = true ∧ ¬ (a = b ∧ ¬ σ 10 a = 0)))))
    (fun υ ⟨h1, h2⟩ => X1v_step_3 hG _ _ _ _ υ ⟨fun _ => hq υ h1 (fun t a b ht ha => by
      rw [h2 t a b ht ha]
      exact or_congr Iff.rfl ⟨fun z => z.2, fun z => ⟨ha, z⟩⟩), fun c => zle (by decide) c⟩)
    (fun s υ hs ⟨h1, h2⟩ hn => by
      have cw : (nI w).toNatClampNeg = w := nI_clamp (by omega)
      have cv : (nI v).toNatClampNeg = v := nI_clamp (by omega)
      have cs : (nI s).toNatClampNeg = s := nI_clamp (by omega)
      have cx : (nI (th * 8 + s)).toNatClampNeg = th * 8 + s := nI_clamp (by omega)
      have hx := zi_in (show th * 8 + s < 32 by omega) (show 32 < 2 ^ 31 by decide)
      have hv12 := zi_in hv (show 12 < 2 ^ 31 by decide)
      have put : ∀ m : Int32, bt (σ 21 w) s = true → (∀ b, bt m b = true ↔ (bt (σ 21 v) b = true ∧ ¬ (s = b ∧ ¬ σ 10 s = 0))) → G 3 [some (.inr 99), some (.inl (nI th)), some (.inl (nI w)), some (.inl (nI v)), some (.inl (nI s + 1)), none] [] (mU υ 23 (th * 8 + s) (υ 23 (th * 8 + s) ||| m)) := by
        intro m hb hm
        have := hn (mU υ 23 (th * 8 + s) (υ 23 (th * 8 + s) ||| m)) ⟨fun k hk => by rw [mU_ne hk]; exact h1 k hk, fun t a b ht ha => ?_⟩
        · rw [← nI_1] at this
          exact this
        · by_cases e : t * 8 + a = th * 8 + s
          · have e1 : t = th := by omega
            have e2 : a = s := by omega
            subst e1 e2
            rw [mU_s, b_or, Bool.or_eq_true, h2 t a b ht ha, hm b]
            constructor
            · rintro ((z | z) | z)
              · exact Or.inl z
              · exact absurd z.1 (Nat.lt_irrefl a)
              · exact Or.inr ⟨by omega, rfl, hb, z⟩
            · rintro (z | z)
              · exact Or.inl (Or.inl z)
              · exact Or.inr z.2.2.2
          · rw [mU_o (Or.inr e), h2 t a b ht ha]
            refine or_congr Iff.rfl ⟨fun z => ⟨by omega, z.2⟩, fun z => ⟨?_, z.2⟩⟩
            have := z.1
            have := z.2.1
            omega
      refine X1v_step_3 hG _ _ _ _ υ ⟨fun c => zge hs (by decide) c, fun _ => ?_⟩
      rw [cw, cv, cs, zn_ix8, cx, h1 21 (by decide), h1 10 (by decide)]
      refine ⟨zi_in hw (by decide), fun x1 e1 => ?_⟩
      subst e1
      refine ⟨fun d => ?_, fun d => ⟨zi_in hs (by decide), fun x2 e2 => ⟨fun g => ⟨hv12, fun x3 e3 => ⟨hx, fun x4 e4 => ⟨hx, ?_⟩⟩⟩, fun g => ⟨hv12, fun x5 e5 => ⟨hx, fun x6 e6 => ⟨hx, ?_⟩⟩⟩⟩⟩⟩
      · have hb : ¬ bt (σ 21 w) s = true := fun q => d ((zb_is1 _ (by omega)).mpr q)
        have := hn υ ⟨h1, fun t a b ht ha => ?_⟩
        · rw [← nI_1] at this
          exact this
        · rw [h2 t a b ht ha]
          refine or_congr Iff.rfl ⟨fun z => ⟨by omega, z.2⟩, fun z => ⟨?_, z.2⟩⟩
          rcases Nat.lt_or_ge a s with q | q
          · exact q
          · have e : a = s := by omega
            subst e
            exact absurd z.2.2.1 hb
      · subst e2 e3 e4
        exact put _ ((zb_is1 _ (by omega)).mp d) (fun b => ⟨fun z => ⟨z, fun q => q.2 g⟩, fun z => z.1⟩)
      · subst e2 e5 e6
        refine put _ ((zb_is1 _ (by omega)).mp d) (fun b => ?_)
        rcases Nat.lt_or_ge b 32 with q | q
        · rw [b_and, zb_not _ q, zb_one (by omega) q, Bool.and_eq_true]
          refine and_congr Iff.rfl ?_
          by_cases e : b = s
          · subst e
            simp [g]
          · simp [e, Ne.symm e]
        · rw [b_big q, b_big q]
          exact ⟨fun z => (by cases z), fun z => (by cases z.1)⟩)
  exact ⟨Or.inl (Nat.le_of_ble_eq_true rfl), X1v_step_0 hG _ _ _ σ (key 0 σ (by omega) ⟨fun _ _ => rfl, fun t a b ht ha => ⟨Or.inl, fun z => z.elim id (fun q => absurd q.1 (Nat.not_lt_zero a))⟩⟩)⟩
theorem X1d_allSteps (G : Nat → mL → List mv → mS → Prop) (Q : Option Int32 → mS → Prop) (vs : List Int32) (σ : mS) (hG : mCl X1g_allSteps G Q) (h : X1t_allSteps vs σ Q) : (vs.length + 1 ≤ 4 ∨ (true = false ∧ vs.length ≤ 4)) ∧ G 0 (mL0 4 true vs) [] σ := by
  obtain ⟨A, ⟨hA, hS, rfl⟩, h⟩ := h
  have hq : ∀ τ, (∀ k, k ≠ 23 → τ k = σ k) → SMm A τ → Q none τ := fun τ h1 h2 => h τ ⟨h1, h2⟩
  have hl12 := hA.1.2.2.2.1
  have e11 := hA.2.2.2.1.1
  have key23 := zup (α := mS) (N := A.2.2.1.length) (H := fun r υ => G 23 [some (.inr 99), some (.inl (nI r)), none, none] [] υ)
    (I := fun r υ => (∀ k, k ≠ 23 → υ k = σ k) ∧ ∀ t a b, t < 4 → a < 8 → (bt (υ 23 (t * 8 + a)) b = true ↔ Sp A r [] t a b))
    (fun υ ⟨h1, h2⟩ => by
      refine X1v_allSteps_23 hG _ υ ⟨fun _ => hq υ h1 (fun t a b ht ha => ?_), fun c => ?_⟩
      · rw [h2 t a b ht ha]
        constructor
        · rintro (⟨r', z⟩ | ⟨-, q, hq, -⟩)
          · exact ⟨r', z⟩
          · exact absurd hq List.not_mem_nil
        · rintro ⟨r', z⟩
          exact Or.inl ⟨r', z⟩
      · rw [h1 11 (by decide), e11] at c
        exact zle (by omega) c)
    (fun r υ hr ⟨h1, h2⟩ hn => by
      obtain ⟨a1, a2, a3⟩ := hA.1.2.2.2.2.2.1 r hr
      obtain ⟨b1, b2, b3⟩ := hA.2.2.2.1.2 r hr
      refine X1v_allSteps_23 hG _ υ ⟨fun c => ?_, fun _ => ⟨zi_in (by omega) (by decide), fun x1 e1 => ?_⟩⟩
      · rw [h1 11 (by decide), e11] at c
        exact zge hr (by omega) c
      · rw [h1 14 (by decide), nI_clamp (by omega), b3] at e1
        subst e1
        have inner := zup (α := mS × Option Nat) (N := 12) (H := fun i st => G 40 [some (.inr 99), some (.inl (nI r)), some (.inl (enc st.2)), some (.inl (nI i))] [] st.1)
          (I := fun i st => (∀ k, k ≠ 23 → st.1 k = σ k) ∧ (∀ c, st.2 = some c → c < A.2.2.1.length) ∧ ∃ pre, pre ++ ancs A (12 - i) st.2 = ancs A 12 (rg A r).2.2 ∧ ∀ t a b, t < 4 → a < 8 → (bt (st.1 23 (t * 8 + a)) b = true ↔ Sp A r pre t a b))
          (fun st ⟨g1, g2, pre, g3, g4⟩ => X1v_allSteps_40 hG _ _ _ st.1 ⟨fun _ => by
            have := hn st.1 ⟨g1, fun t a b ht ha => by
              have g3 : pre ++ [] = ancs A 12 (rg A r).2.2 := g3
              rw [List.append_nil] at g3
              rw [g4 t a b ht ha, g3]
              exact Sp.next⟩
            rw [← nI_1] at this
            exact this, fun c => zle (by decide) c⟩)
          (fun i st hi ⟨g1, g2, pre, g3, g4⟩ hnx => by
            obtain ⟨w, ro⟩ := st
            dsimp only at g1 g2 g3 g4 ⊢
            obtain ⟨k, hk⟩ : ∃ k, 12 - i = k + 1 := ⟨11 - i, by omega⟩
            rw [hk] at g3
            refine X1v_allSteps_40 hG _ _ _ w ⟨fun c => zge hi (by decide) c, fun _ => ⟨fun c => ?_, fun c => ?_⟩⟩
            · cases ro with
              | none =>
                have := hn w ⟨g1, fun t a b ht ha => by
                  have g3 : pre ++ [] = ancs A 12 (rg A r).2.2 := g3
                  rw [List.append_nil] at g3
                  rw [g4 t a b ht ha, g3]
                  exact Sp.next⟩
                rw [← nI_1] at this
                exact this
              | some q =>
                have := g2 q rfl
                exact absurd c (nI_pos (by omega))
            · cases ro with
              | none => exact absurd (show enc none < 0 by decide) c
              | some q =>
                have hqr := g2 q rfl
                obtain ⟨c1, c2, c3⟩ := hA.1.2.2.2.2.2.1 q hqr
                obtain ⟨d1, d2, d3⟩ := hA.2.2.2.1.2 q hqr
                have hcq : (enc (some q)).toNatClampNeg = q := nI_clamp (by omega)
                have hvq : vp_in (enc (some q)) 12 := zi_in (by omega) (by decide)
                have hcr : (nI r).toNatClampNeg = r := nI_clamp (by omega)
                have hvr : vp_in (nI r) 12 := zi_in (by omega) (by decide)
                rw [hcq, hcr]
                refine ⟨hvr, fun x1 e1 => ⟨hvq, fun x2 e2 => ⟨hvr, fun x3 e3 => ?_⟩⟩⟩
                rw [g1 12 (by decide), b1] at e1
                rw [g1 13 (by decide), d2] at e2
                rw [g1 13 (by decide), b2] at e3
                subst e1 e2 e3
                refine ⟨⟨_, _, _, a1, c2, a2, rfl⟩, fun s8 h8 => ?_⟩
                obtain ⟨h8, h9⟩ := h8 _ _ _ a1 c2 a2 rfl
                have hk8 : ∀ k, k ≠ 23 → s8 k = σ k := fun k hk => (h8 k hk).trans (g1 k hk)
                refine ⟨hvq, fun x9 e9 => ?_⟩
                rw [hk8 14 (by decide), d3] at e9
                subst e9
                have := hnx (s8, (rg A q).2.2) ⟨hk8, fun c' hc' => by have := c3 c' hc'; omega, pre ++ [q], by
                  rw [show 12 - (i + 1) = k by omega, List.append_assoc]
                  exact g3, fun t a b ht ha => ?_⟩
                · rw [← nI_1] at this
                  exact this
                · dsimp only
                  have h10 : (¬ σ 10 a = 0) ↔ A.2.1 a = true := by
                    rw [hA.2.2.1 a ha]
                    cases A.2.1 a
                    · simp
                    · simp
                  rw [h9 t a b ht ha, g4 t a b ht ha, g1 21 (by decide), g1 10 (by decide), hS.lo c2, hS.lo a2, h10]
                  constructor
                  · rintro ((z | ⟨z1, q', z2, z3⟩) | ⟨z1, z2⟩)
                    · exact Or.inl z
                    · exact Or.inr ⟨z1, q', List.mem_append_left _ z2, z3⟩
                    · exact Or.inr ⟨z1.symm, q, List.mem_append_right _ (List.mem_singleton.mpr rfl), z2⟩
                  · rintro (z | ⟨z1, q', z2, z3⟩)
                    · exact Or.inl (Or.inl z)
                    · rcases List.mem_append.mp z2 with z2 | z2
                      · exact Or.inl (Or.inr ⟨z1, q', z2, z3⟩)
                      · rw [List.mem_singleton] at z2
                        subst z2
                        exact Or.inr ⟨z1.symm, z3⟩)
        refine inner 0 (υ, (rg A r).2.2) (by omega) ⟨h1, fun c hc => by have := a3 c hc; omega, [], rfl, h2⟩)
  have key2 := zup (α := mS) (N := 32) (H := fun i υ => G 2 [some (.inr 99), some (.inl (nI i)), none, none] [] υ) (I := fun i υ => (∀ k, k ≠ 23 → υ k = σ k) ∧ ∀ e, e < i → υ 23 e = 0)
    (fun υ ⟨h1, h2⟩ => X1v_allSteps_2 hG _ υ ⟨fun _ => key23 0 υ (by omega) ⟨h1, fun t a b ht ha => by
      rw [h2 _ (by omega), b_0]
      constructor
      · intro z; cases z
      · rintro (⟨r', z, -⟩ | ⟨-, q, z, -⟩)
        · omega
        · exact absurd z List.not_mem_nil⟩, fun c => zle (by decide) c⟩)
    (fun i υ hi ⟨h1, h2⟩ hn => by
      refine X1v_allSteps_2 hG _ υ ⟨fun c => zge hi (by decide) c, fun _ => ⟨zi_in hi (by decide), ?_⟩⟩
      rw [nI_clamp (by omega)]
      have := hn (mU υ 23 i 0) ⟨fun k hk => by rw [mU_ne hk]; exact h1 k hk, fun e he => by
        by_cases q : e = i
        · rw [q, mU_s]
        · rw [mU_o (Or.inr q)]
          exact h2 e (by omega)⟩
      rw [← nI_1] at this
      exact this)
  exact ⟨Or.inl (Nat.le_of_ble_eq_true rfl), X1v_allSteps_0 hG σ (key2 0 σ (by omega) ⟨fun _ _ => rfl, fun e he => absurd he (Nat.not_lt_zero e)⟩)⟩
theorem z_mod8 {i : Nat} (h : i < 32) : nI i - nI i / 8 * 8 = nI (i % 8) := by
  have : ∀ i, i < 32 → nI i - nI i / 8 * 8 = nI (i % 8) := by decide +kernel
  exact this i h
theorem z_div8 {i : Nat} (h : i < 32) : nI i / 8 = nI (i / 8) := by
  have : ∀ i, i < 32 → nI i / 8 = nI (i / 8) := by decide +kernel
  exact this i h
theorem X1d_beyond (G : Nat → mL → List mv → mS → Prop) (Q : Option Int32 → mS → Prop) (vs : List Int32) (σ : mS) (hG : mCl X1g_beyond G Q) (h : X1t_beyond vs σ Q) : (vs.length + 1 ≤ 4 ∨ (true = false ∧ vs.length ≤ 4)) ∧ G 0 (mL0 4 true vs) [] σ := by
  obtain ⟨⟨x, rfl⟩, h⟩ := h
  have hq : ∀ r, (∀ b, bt r b = true ↔ ∃ i, i < 32 ∧ bt x (i % 8) = true ∧ bt (σ 23 i) b = true) → Q (some r) σ := fun r hr => h r fun x' e b => by
    cases e
    rw [hr b]
    constructor
    · rintro ⟨i, hi, h1, h2⟩
      exact ⟨i / 8, i % 8, by omega, by omega, h1, by rw [show i / 8 * 8 + i % 8 = i by omega]; exact h2⟩
    · rintro ⟨t, a, ht, ha, h1, h2⟩
      exact ⟨t * 8 + a, by omega, by rw [show (t * 8 + a) % 8 = a by omega]; exact h1, h2⟩
  have key := zup (α := Int32) (N := 32) (H := fun i o => G 4 [some (.inr 99), some (.inl x), some (.inl o), some (.inl (nI i))] [] σ) (I := fun n o => ∀ b, bt o b = true ↔ ∃ i, i < n ∧ bt x (i % 8) = true ∧ bt (σ 23 i) b = true)
    (fun o ho => X1v_beyond_4 hG _ _ _ σ ⟨fun _ => hq o ho, fun c => zle (by decide) c⟩)
    (fun i o hi ho hn => by
      refine X1v_beyond_4 hG _ _ _ σ ⟨fun c => zge hi (by decide) c, fun _ => ⟨by decide, ?_⟩⟩
      rw [z_mod8 hi, nI_clamp (n := i) (by omega)]
      refine ⟨fun d => ?_, fun d => ⟨zi_in hi (by decide), fun x1 e1 => ?_⟩⟩
      · have hb : ¬ bt x (i % 8) = true := fun q => d ((zb_is1 _ (by omega)).mpr q)
        have := hn o (fun b => by
          rw [ho b]
          constructor
          · rintro ⟨j, hj, z⟩
            exact ⟨j, by omega, z⟩
          · rintro ⟨j, hj, z1, z2⟩
            rcases Nat.lt_or_ge j i with q | q
            · exact ⟨j, q, z1, z2⟩
            · have e : j = i := by omega
              subst e
              exact absurd z1 hb)
        rw [← nI_1] at this
        exact this
      · have hb : bt x (i % 8) = true := (zb_is1 _ (by omega)).mp d
        subst e1
        have := hn (o ||| σ 23 i) (fun b => by
          rw [b_or, Bool.or_eq_true, ho b]
          constructor
          · rintro (⟨j, hj, z⟩ | z)
            · exact ⟨j, by omega, z⟩
            · exact ⟨i, by omega, hb, z⟩
          · rintro ⟨j, hj, z1, z2⟩
            rcases Nat.lt_or_ge j i with q | q
            · exact Or.inl ⟨j, q, z1, z2⟩
            · have e : j = i := by omega
              subst e
              exact Or.inr z2)
        rw [← nI_1] at this
        exact this)
  exact ⟨Or.inl (Nat.le_of_ble_eq_true rfl), X1v_beyond_0 hG _ σ (key 0 0 (by omega) (fun b => by
    rw [b_0]
    exact ⟨fun z => (by cases z), fun ⟨i, hi, _⟩ => absurd hi (Nat.not_lt_zero i)⟩))⟩
/-- what is reached from s in rounds: closed, or as many sites as rounds -/
def RcI (A : AS) (s k : Nat) (x : Int32) : Prop := (∀ b, bt x b = true → b < 8 ∧ Rch (anyStp A) s b) ∧ bt x s = true ∧ ((∀ a b, bt x a = true → anyStp A a b → bt x b = true) ∨ k + 1 ≤ zcnt x)
theorem RcI.done {A : AS} {s : Nat} {x : Int32} (h : RcI A s 8 x) (b : Nat) : bt x b = true ↔ Rch (anyStp A) s b := by
  obtain ⟨h1, h2, h3⟩ := h
  refine ⟨fun q => (h1 b q).2, fun q => ?_⟩
  rcases h3 with h3 | h3
  · exact q (fun z => bt x z = true) h2 (fun a c ha hac => h3 a c ha hac)
  · have := zcnt_le x
    omega
theorem RcI.next {A : AS} (hB : StB A) {s k : Nat} {x y : Int32} (h : RcI A s k x) (hy : ∀ b, bt y b = true ↔ ∃ a, bt x a = true ∧ anyStp A a b) : RcI A s (k + 1) (x ||| y) := by
  obtain ⟨h1, h2, h3⟩ := h
  refine ⟨fun b hb => ?_, by rw [b_or, h2]; rfl, ?_⟩
  · rw [b_or, Bool.or_eq_true, hy b] at hb
    rcases hb with hb | ⟨a, ha, hab⟩
    · exact h1 b hb
    · obtain ⟨t, ht⟩ := hab
      exact ⟨(hB t a b ht).2.2, (h1 a ha).2.st ⟨t, ht⟩⟩
  · rcases Classical.em (∀ b, bt y b = true → bt x b = true) with q | q
    · left
      intro a b ha hab
      have ha : bt x a = true := by
        rw [b_or, Bool.or_eq_true] at ha
        rcases ha with ha | ha
        · exact ha
        · exact q a ha
      rw [b_or, Bool.or_eq_true]
      exact Or.inr ((hy b).mpr ⟨a, ha, hab⟩)
    · right
      obtain ⟨b, hb⟩ : ∃ b, bt y b = true ∧ bt x b = false := by
        refine Classical.byContradiction fun z => q fun b hb => ?_
        cases hx : bt x b
        · exact absurd ⟨b, hb, hx⟩ z
        · rfl
      have hmono : ∀ c, bt x c = true → bt (x ||| y) c = true := fun c hc => by rw [b_or, hc]; rfl
      have h8 : b < 8 := by
        obtain ⟨a, -, t, ht⟩ := (hy b).mp hb.1
        exact (hB t a b ht).2.2
      have hlt := zcnt_lt hmono h8 hb.2 (by rw [b_or, hb.1, Bool.or_true])
      rcases h3 with h3 | h3
      · obtain ⟨a, ha, hab⟩ := (hy b).mp hb.1
        have := h3 a b ha hab
        rw [hb.2] at this
        cases this
      · omega
theorem RcI.start {A : AS} {s : Nat} (hs : s < 8) : RcI A s 0 ((1 : Int32) <<< (nI s &&& 31)) := by
  have hb : ∀ b, bt ((1 : Int32) <<< (nI s &&& 31)) b = true → b = s := fun b h => by
    have h32 := zb_lt h
    rw [zb_one (by omega) h32] at h
    exact of_decide_eq_true h
  have h1 : bt ((1 : Int32) <<< (nI s &&& 31)) s = true := by
    rw [zb_one (by omega) (by omega)]
    exact decide_eq_true rfl
  refine ⟨fun b h => ?_, h1, Or.inr ?_⟩
  · have e := hb b h
    subst e
    exact ⟨hs, Rch.rf b⟩
  · have : 0 < fb_ct (bt ((1 : Int32) <<< (nI s &&& 31))) 8 := fb_ct_pos.mpr ⟨s, hs, h1⟩
    unfold zcnt
    omega
theorem X1d_allWays (G : Nat → mL → List mv → mS → Prop) (Q : Option Int32 → mS → Prop) (vs : List Int32) (σ : mS) (hG : mCl X1g_allWays G Q) (h : X1t_allWays vs σ Q) : (vs.length + 1 ≤ 3 ∨ (true = false ∧ vs.length ≤ 3)) ∧ G 0 (mL0 3 true vs) [] σ := by
  obtain ⟨A, ⟨hB, hM, rfl⟩, h⟩ := h
  have hq : ∀ τ, (∀ k, k ≠ 24 → τ k = σ k) → RcM A τ → Q none τ := fun τ h1 h2 => h τ ⟨h1, h2⟩
  have key25 := zup (α := mS) (N := 8) (H := fun k υ => G 25 [some (.inr 99), some (.inl (nI k)), none] [] υ)
    (I := fun k υ => (∀ k, k ≠ 24 → υ k = σ k) ∧ ∀ s, s < 8 → RcI A s k (υ 24 s))
    (fun υ ⟨h1, h2⟩ => X1v_allWays_25 hG _ υ ⟨fun _ => hq υ h1 (fun s hs b => (h2 s hs).done b), fun c => zle (by decide) c⟩)
    (fun k υ hk ⟨h1, h2⟩ hn => by
      refine X1v_allWays_25 hG _ υ ⟨fun c => zge hk (by decide) c, fun _ => ?_⟩
      have inner := zup (α := mS) (N := 8) (H := fun s υ => G 33 [some (.inr 99), some (.inl (nI k)), some (.inl (nI s))] [] υ)
        (I := fun n υ => (∀ k, k ≠ 24 → υ k = σ k) ∧ ∀ s, s < 8 → RcI A s (if s < n then k + 1 else k) (υ 24 s))
        (fun υ ⟨g1, g2⟩ => X1v_allWays_33 hG _ _ υ ⟨fun _ => by
          have := hn υ ⟨g1, fun s hs => by
            have := g2 s hs
            rw [if_pos hs] at this
            exact this⟩
          rw [← nI_1] at this
          exact this, fun c => zle (by decide) c⟩)
        (fun s υ hs ⟨g1, g2⟩ hn2 => by
          have cs : (nI s).toNatClampNeg = s := nI_clamp (by omega)
          have hs8 := zi_in hs (show 8 < 2 ^ 31 by decide)
          refine X1v_allWays_33 hG _ _ υ ⟨fun c => zge hs (by decide) c, fun _ => ?_⟩
          rw [cs]
          refine ⟨hs8, fun x1 e1 => ⟨hs8, fun x2 e2 => ⟨⟨x2, rfl⟩, fun x3 h3 => ⟨hs8, ?_⟩⟩⟩⟩
          subst e1 e2
          have h3 := h3 _ rfl
          have hI := g2 s hs
          rw [if_neg (Nat.lt_irrefl s)] at hI
          have hI2 := hI.next hB (y := x3) (fun b => by
            rw [h3 b, g1 23 (by decide)]
            constructor
            · rintro ⟨t, a, ht, ha, z1, z2⟩
              exact ⟨a, z1, t, (hM t a b ht ha).mp z2⟩
            · rintro ⟨a, z1, t, z2⟩
              obtain ⟨ht, ha, -⟩ := hB t a b z2
              exact ⟨t, a, ht, ha, z1, (hM t a b ht ha).mpr z2⟩)
          have := hn2 (mU υ 24 s (υ 24 s ||| x3)) ⟨fun j hj => by rw [mU_ne hj]; exact g1 j hj, fun s' hs' => by
            by_cases e : s' = s
            · subst e
              rw [mU_s, if_pos (by omega)]
              exact hI2
            · rw [mU_o (Or.inr e)]
              have := g2 s' hs'
              by_cases q : s' < s
              · rw [if_pos q] at this
                rw [if_pos (by omega)]
                exact this
              · rw [if_neg q] at this
                rw [if_neg (by omega)]
                exact this⟩
          rw [← nI_1] at this
          exact this)
      exact inner 0 υ (by omega) ⟨h1, fun s hs => by rw [if_neg (Nat.not_lt_zero s)]; exact h2 s hs⟩)
  have key2 := zup (α := mS) (N := 8) (H := fun s υ => G 2 [some (.inr 99), some (.inl (nI s)), none] [] υ)
    (I := fun n υ => (∀ k, k ≠ 24 → υ k = σ k) ∧ ∀ s, s < n → υ 24 s = (1 : Int32) <<< (nI s &&& 31))
    (fun υ ⟨h1, h2⟩ => X1v_allWays_2 hG _ υ ⟨fun _ => key25 0 υ (by omega) ⟨h1, fun s hs => by rw [h2 s hs]; exact RcI.start hs⟩, fun c => zle (by decide) c⟩)
    (fun s υ hs ⟨h1, h2⟩ hn => by
      refine X1v_allWays_2 hG _ υ ⟨fun c => zge hs (by decide) c, fun _ => ⟨zi_in hs (by decide), ?_⟩⟩
      rw [nI_clamp (n := s) (by omega)]
      have := hn (mU υ 24 s ((1 : Int32) <<< (nI s &&& 31))) ⟨fun k hk => by rw [mU_ne hk]; exact h1 k hk, fun e he => by
        by_cases q : e = s
        · rw [q, mU_s]
        · rw [mU_o (Or.inr q)]
          exact h2 e (by omega)⟩
      rw [← nI_1 s] at this
      exact this)
  exact ⟨Or.inl (Nat.le_of_ble_eq_true rfl), X1v_allWays_0 hG σ (key2 0 σ (by omega) ⟨fun _ _ => rfl, fun e he => absurd he (Nat.not_lt_zero e)⟩)⟩
/-- two bits below 8, or more -/
theorem zcnt_two {x : Int32} (h8 : ∀ t, bt x t = true → t < 8) : (¬ nI (zcnt x) ≤ 1) ↔ ∃ t1 t2, t1 ≠ t2 ∧ bt x t1 = true ∧ bt x t2 = true := by
  have hle := zcnt_le x
  have hn : (¬ nI (zcnt x) ≤ 1) ↔ 1 < zcnt x := by
    show (¬ nI (zcnt x) ≤ nI 1) ↔ _
    rw [nI_leI (by omega) (by omega)]
    omega
  rw [hn]
  unfold zcnt
  constructor
  · intro h
    obtain ⟨i, hi, hi1, hi2⟩ := fb_ct_kth (k := 0) (show 0 < fb_ct (bt x) 8 by omega)
    obtain ⟨j, hj, hj1, hj2⟩ := fb_ct_kth h
    exact ⟨i, j, fun e => (by rw [e, hj2] at hi2; cases hi2), hi1, hj1⟩
  · rintro ⟨t1, t2, hne, h1, h2⟩
    have b1 := h8 t1 h1
    have b2 := h8 t2 h2
    have e : fb_ct (fun k => if k = t1 then false else bt x k) 8 + (if bt x t1 then 1 else 0) = fb_ct (bt x) 8 + (if false then 1 else 0) := fb_ct_upd (bt x) false b1
    rw [h1] at e
    have hp : 0 < fb_ct (fun k => if k = t1 then false else bt x k) 8 := fb_ct_pos.mpr ⟨t2, b2, by rw [if_neg (fun q => hne q.symm)]; exact h2⟩
    simp only [if_true, Bool.false_eq_true, if_false] at e
    omega
theorem X1d_threadsAround (G : Nat → mL → List mv → mS → Prop) (Q : Option Int32 → mS → Prop) (vs : List Int32) (σ : mS) (hG : mCl X1g_threadsAround G Q) (h : X1t_threadsAround vs σ Q) : (vs.length + 1 ≤ 6 ∨ (true = false ∧ vs.length ≤ 6)) ∧ G 0 (mL0 6 true vs) [] σ := by
  obtain ⟨A, ⟨hB, hM, hR, s, hs, rfl⟩, h⟩ := h
  have hq : ∀ x : Int32, (∀ u, bt x u = true ↔ ∃ i t, i < 32 ∧ t < 8 ∧ u = i / 8 ∧ bt (σ 23 i) t = true ∧ bt (σ 24 s) (i % 8) = true ∧ bt (σ 24 t) s = true) → Q (some (nI (zcnt x))) σ := by
    intro x hx
    refine h _ fun s' hs' e => ?_
    cases zn_inj (by omega) (by omega) (List.cons.inj e).1
    have hx2 : ∀ u, bt x u = true ↔ ∃ a b, Stp2 A u a b ∧ Rch (anyStp A) s a ∧ Rch (anyStp A) b s := by
      intro u
      rw [hx u]
      constructor
      · rintro ⟨i, t, hi, ht, rfl, z1, z2, z3⟩
        have e : i / 8 * 8 + i % 8 = i := by omega
        refine ⟨i % 8, t, (hM (i / 8) (i % 8) t (by omega) (by omega)).mp (by rw [e]; exact z1), (hR s hs _).mp z2, (hR t ht _).mp z3⟩
      · rintro ⟨a, b, z1, z2, z3⟩
        obtain ⟨hu, ha, hb⟩ := hB u a b z1
        exact ⟨u * 8 + a, b, by omega, hb, by omega, (hM u a b hu ha).mpr z1, by rw [show (u * 8 + a) % 8 = a by omega]; exact (hR s hs _).mpr z2, (hR b hb _).mpr z3⟩
    rw [zcnt_two (fun t ht => by
      obtain ⟨a, b, z, -⟩ := (hx2 t).mp ht
      have := (hB t a b z).1
      omega)]
    constructor
    · rintro ⟨t1, t2, hne, z1, z2⟩
      obtain ⟨a1, b1, y1⟩ := (hx2 t1).mp z1
      obtain ⟨a2, b2, y2⟩ := (hx2 t2).mp z2
      exact ⟨t1, t2, a1, b1, a2, b2, hne, y1, y2⟩
    · rintro ⟨t1, t2, a1, b1, a2, b2, hne, y1, y2⟩
      exact ⟨t1, t2, hne, (hx2 t1).mpr ⟨a1, b1, y1⟩, (hx2 t2).mpr ⟨a2, b2, y2⟩⟩
  have cs : (nI s).toNatClampNeg = s := nI_clamp (by omega)
  have hs8 := zi_in hs (show 8 < 2 ^ 31 by decide)
  have key := zup (α := Int32) (N := 32) (H := fun i x => G 4 [some (.inr 99), some (.inl (nI s)), some (.inl x), some (.inl (nI i)), none, none] [] σ)
    (I := fun n x => ∀ u, bt x u = true ↔ ∃ i t, i < n ∧ t < 8 ∧ u = i / 8 ∧ bt (σ 23 i) t = true ∧ bt (σ 24 s) (i % 8) = true ∧ bt (σ 24 t) s = true)
    (fun x hx => X1v_threadsAround_4 hG _ _ _ σ ⟨fun _ => ⟨⟨x, rfl⟩, fun x1 h1 => by rw [h1 x rfl]; exact hq x hx⟩, fun c => zle (by decide) c⟩)
    (fun i x hi hx hn => by
      refine X1v_threadsAround_4 hG _ _ _ σ ⟨fun c => zge hi (by decide) c, fun _ => ?_⟩
      have ci : (nI i).toNatClampNeg = i := nI_clamp (by omega)
      have inner := zup (α := Int32) (N := 8) (H := fun t x => G 13 [some (.inr 99), some (.inl (nI s)), some (.inl x), some (.inl (nI i)), some (.inl (nI t)), none] [] σ)
        (I := fun n x => ∀ u, bt x u = true ↔ ∃ j t, ((j < i ∧ t < 8) ∨ (j = i ∧ t < n)) ∧ u = j / 8 ∧ bt (σ 23 j) t = true ∧ bt (σ 24 s) (j % 8) = true ∧ bt (σ 24 t) s = true)
        (fun x hx => X1v_threadsAround_13 hG _ _ _ _ σ ⟨fun _ => by
          have := hn x (fun u => by
            rw [hx u]
            constructor
            · rintro ⟨j, t, z, y⟩
              exact ⟨j, t, by omega, by omega, y⟩
            · rintro ⟨j, t, z1, z2, y⟩
              exact ⟨j, t, by omega, y⟩)
          rw [← nI_1] at this
          exact this, fun c => zle (by decide) c⟩)
        (fun t x ht hx hn2 => by
          have ct : (nI t).toNatClampNeg = t := nI_clamp (by omega)
          have skip : ¬ (bt (σ 23 i) t = true ∧ bt (σ 24 s) (i % 8) = true ∧ bt (σ 24 t) s = true) → G 13 [some (.inr 99), some (.inl (nI s)), some (.inl x), some (.inl (nI i)), some (.inl (nI t + 1)), none] [] σ := by
            intro hno
            have := hn2 x (fun u => by
              rw [hx u]
              constructor
              · rintro ⟨j, t', z, y⟩
                exact ⟨j, t', by omega, y⟩
              · rintro ⟨j, t', z, y1, y2⟩
                rcases Classical.em (j = i ∧ t' = t) with ⟨q1, q2⟩ | q
                · subst q1 q2
                  exact absurd y2 hno
                · exact ⟨j, t', by omega, y1, y2⟩)
            rw [← nI_1] at this
            exact this
          have put : (bt (σ 23 i) t = true ∧ bt (σ 24 s) (i % 8) = true ∧ bt (σ 24 t) s = true) → G 13 [some (.inr 99), some (.inl (nI s)), some (.inl (x ||| ((1 : Int32) <<< (nI (i / 8) &&& 31)))), some (.inl (nI i)), some (.inl (nI t + 1)), none] [] σ := by
            intro hyes
            have := hn2 (x ||| ((1 : Int32) <<< (nI (i / 8) &&& 31))) (fun u => by
              rw [zb_or1 _ (by omega), hx u]
              constructor
              · rintro (⟨j, t', z, y⟩ | z)
                · exact ⟨j, t', by omega, y⟩
                · exact ⟨i, t, by omega, z, hyes⟩
              · rintro ⟨j, t', z, y1, y2⟩
                rcases Classical.em (j = i ∧ t' = t) with ⟨q1, q2⟩ | q
                · subst q1 q2
                  exact Or.inr y1
                · exact Or.inl ⟨j, t', by omega, y1, y2⟩)
            rw [← nI_1 t] at this
            exact this
          refine X1v_threadsAround_13 hG _ _ _ _ σ ⟨fun c => zge ht (by decide) c, fun _ => ?_⟩
          rw [ci, cs, ct, z_mod8 hi, z_div8 hi]
          refine ⟨zi_in hi (by decide), fun x1 e1 => ?_⟩
          subst e1
          refine ⟨fun a => ⟨fun _ => skip (fun q => a ((zb_is1 _ (by omega)).mpr q.1)), fun z => absurd rfl z⟩, fun a => ⟨fun z => absurd z (by decide), fun _ => ⟨hs8, fun x4 e4 => ⟨by decide, ?_⟩⟩⟩⟩
          subst e4
          refine ⟨fun b => skip (fun q => b ((zb_is1 _ (by omega)).mpr q.2.1)), fun b => ⟨zi_in ht (by decide), fun x5 e5 => ?_⟩⟩
          subst e5
          refine ⟨fun c => skip (fun q => c ((zb_is1 _ (by omega)).mpr q.2.2)), fun c => ⟨by decide, put ⟨(zb_is1 _ (by omega)).mp a, (zb_is1 _ (by omega)).mp b, (zb_is1 _ (by omega)).mp c⟩⟩⟩)
      exact inner 0 x (by omega) (fun u => by
        rw [hx u]
        constructor
        · rintro ⟨j, t, z1, z2, y⟩
          exact ⟨j, t, by omega, y⟩
        · rintro ⟨j, t, z, y⟩
          exact ⟨j, t, by omega, by omega, y⟩))
  exact ⟨Or.inl (Nat.le_of_ble_eq_true rfl), X1v_threadsAround_0 hG _ σ (key 0 0 (by omega) (fun u => by
    rw [b_0]
    exact ⟨fun z => (by cases z), fun ⟨i, t, hi, _⟩ => absurd hi (Nat.not_lt_zero i)⟩))⟩
theorem X1d_danger (G : Nat → mL → List mv → mS → Prop) (Q : Option Int32 → mS → Prop) (vs : List Int32) (σ : mS) (hG : mCl X1g_danger G Q) (h : X1t_danger vs σ Q) : (vs.length + 1 ≤ 3 ∨ (true = false ∧ vs.length ≤ 3)) ∧ G 0 (mL0 3 true vs) [] σ := by
  obtain ⟨A, ⟨hA, rfl⟩, h⟩ := h
  have hq : ∀ τ, RepM A τ → Q (some (zmask (dB A))) τ := fun τ h2 => h _ τ ⟨rfl, h2⟩
  refine ⟨Or.inl (Nat.le_of_ble_eq_true rfl), X1v_danger_0 hG σ ⟨A.1, hA.pre, fun s2 h2 => ?_⟩⟩
  have hA2 : RepM A s2 := hA.work h2.1 h2.2.1 h2.2.2
  have hS := h2.2.2
  have hB : StB A := fun t a b hst => stp_lt hA.1 (fun x hx s hs => by
    rw [← hS.lo hx] at hs
    exact ((hS x (by omega) s).mp (by rw [pv_lo hx]; exact hs)).lt8 hA.1.1) hst
  refine ⟨A, ⟨hA2, hS, rfl⟩, fun s4 h4 => ⟨A, ⟨hB, h4.2, rfl⟩, fun s6 h6 => ?_⟩⟩
  have hk6 : ∀ k, k < 23 → s6 k = s2 k := fun k hk => (h6.1 k (by omega)).trans (h4.1 k (by omega))
  have hA6 : RepM A s6 := by
    obtain ⟨k1, k2⟩ := hA2.core (τ := s6) (fun k hk => hk6 k (by omega))
    exact hA2.next (fun k _ hk => hk6 k (by omega)) k1 k2
  have hM6 : SMm A s6 := fun t a b ht ha => by
    rw [h6.1 23 (by decide)]
    exact h4.2 t a b ht ha
  have key := zup (α := Unit) (N := 8) (H := fun s _ => G 16 [some (.inr 99), some (.inl (zmk (dB A) s)), some (.inl (nI s))] [] s6) (I := fun _ _ => True)
    (fun _ _ => X1v_danger_16 hG _ _ s6 ⟨fun _ => hq s6 hA6, fun c => zle (by decide) c⟩)
    (fun s _ hs _ hn => by
      have hn := hn () trivial
      have e : zmk (dB A) (s + 1) = zmk (dB A) s ||| (if dB A s = true then (1 : Int32) <<< (nI s &&& 31) else 0) := rfl
      rw [e, ← nI_1] at hn
      refine X1v_danger_16 hG _ _ s6 ⟨fun c => zge hs (by decide) c, fun _ => ⟨A, ⟨hB, hM6, h6.2, s, hs, rfl⟩, fun x2 h2 => ?_⟩⟩
      have h2 := h2 s hs rfl
      refine ⟨fun c => ?_, fun c => ?_⟩
      · have hd : ¬ dB A s = true := fun q => h2.mpr ((dB_iff A s).mp q) c
        rw [if_neg hd, z_or_0] at hn
        exact hn
      · have hd : dB A s = true := (dB_iff A s).mpr (h2.mp c)
        rw [if_pos hd] at hn
        exact hn)
  exact key 0 () (by omega) trivial
end
section
/-! printed by gen/ok.py: the methods' contracts over the machine -/
set_option maxRecDepth 100000
theorem X1k_badV : mMet vwCl 1 fdX1 0 yX1_badV cX1_badV 2 (some .boolean) true X1t_badV := mMet_of kdX1 rfl rfl X1b_badV_ok (show ∀ q ∈ ([] : List (Nat × Nat × Bool × mT)), mCallOK vwCl 1 RX1 fdX1 0 q from fun _ h => absurd h List.not_mem_nil) X1d_badV
theorem X1k_badF : mMet vwCl 1 fdX1 0 yX1_badF cX1_badF 2 (some .boolean) true X1t_badF := mMet_of kdX1 rfl rfl X1b_badF_ok (show ∀ q ∈ ([] : List (Nat × Nat × Bool × mT)), mCallOK vwCl 1 RX1 fdX1 0 q from fun _ h => absurd h List.not_mem_nil) X1d_badF
theorem X1k_size : mMet vwCl 1 fdX1 0 yX1_size cX1_size 4 (some .int) true X1t_size := mMet_of kdX1 rfl rfl X1b_size_ok (show ∀ q ∈ ([] : List (Nat × Nat × Bool × mT)), mCallOK vwCl 1 RX1 fdX1 0 q from fun _ h => absurd h List.not_mem_nil) X1d_size
theorem X1k_sweep : mMet vwCl 1 fdX1 0 yX1_sweep cX1_sweep 3 (none) true X1t_sweep := mMet_of kdX1 rfl rfl X1b_sweep_ok (show ∀ q ∈ ([] : List (Nat × Nat × Bool × mT)), mCallOK vwCl 1 RX1 fdX1 0 q from fun _ h => absurd h List.not_mem_nil) X1d_sweep
theorem X1k_total : mMet vwCl 1 fdX1 1 yX1_total cX1_total 4 (some .int) true X1t_total := mMet_of kdX1 rfl rfl X1b_total_ok (show ∀ q ∈ ([(78, 1, true, X1t_size)] : List (Nat × Nat × Bool × mT)), mCallOK vwCl 1 RX1 fdX1 1 q from List.forall_mem_cons.mpr ⟨⟨yX1_size, cX1_size, 4, some .int, 0, X1k_size, by decide, by decide, ⟨rfl, by decide +kernel, by decide +kernel, by decide +kernel⟩, q395, q398, q35, ⟨q397, qs24⟩⟩, fun _ h => absurd h List.not_mem_nil⟩) X1d_total
theorem X1k_workOut : mMet vwCl 1 fdX1 2 yX1_workOut cX1_workOut 4 (none) true X1t_workOut := mMet_of kdX1 rfl rfl X1b_workOut_ok (show ∀ q ∈ ([(86, 0, true, X1t_sweep), (89, 0, true, X1t_total)] : List (Nat × Nat × Bool × mT)), mCallOK vwCl 1 RX1 fdX1 2 q from List.forall_mem_cons.mpr ⟨⟨yX1_sweep, cX1_sweep, 3, none, 0, X1k_sweep, by decide, by decide, ⟨rfl, by decide +kernel, by decide +kernel, by decide +kernel⟩, q387, q390, q35, ⟨q389, qs22⟩⟩, List.forall_mem_cons.mpr ⟨⟨yX1_total, cX1_total, 4, some .int, 1, X1k_total, by decide, by decide, ⟨rfl, by decide +kernel, by decide +kernel, by decide +kernel⟩, q391, q394, q35, ⟨q393, qs23⟩⟩, fun _ h => absurd h List.not_mem_nil⟩⟩) X1d_workOut
theorem X1k_alloc : mMet vwCl 1 fdX1 3 yX1_alloc cX1_alloc 3 (some .int) true X1t_alloc := mMet_of kdX1 rfl rfl X1b_alloc_ok (show ∀ q ∈ ([(93, 1, true, X1t_badV), (97, 0, true, X1t_workOut), (78, 1, true, X1t_size)] : List (Nat × Nat × Bool × mT)), mCallOK vwCl 1 RX1 fdX1 3 q from List.forall_mem_cons.mpr ⟨⟨yX1_badV, cX1_badV, 2, some .boolean, 0, X1k_badV, by decide, by decide, ⟨rfl, by decide +kernel, by decide +kernel, by decide +kernel⟩, q379, q382, q35, ⟨q381, qs20⟩⟩, List.forall_mem_cons.mpr ⟨⟨yX1_workOut, cX1_workOut, 4, none, 2, X1k_workOut, by decide, by decide, ⟨rfl, by decide +kernel, by decide +kernel, by decide +kernel⟩, q383, q386, q35, ⟨q385, qs21⟩⟩, List.forall_mem_cons.mpr ⟨⟨yX1_size, cX1_size, 4, some .int, 0, X1k_size, by decide, by decide, ⟨rfl, by decide +kernel, by decide +kernel, by decide +kernel⟩, q395, q398, q35, ⟨q397, qs24⟩⟩, fun _ h => absurd h List.not_mem_nil⟩⟩⟩) X1d_alloc
theorem X1k_copy : mMet vwCl 1 fdX1 3 yX1_copy cX1_copy 3 (some .int) true X1t_copy := mMet_of kdX1 rfl rfl X1b_copy_ok (show ∀ q ∈ ([(93, 1, true, X1t_badV), (97, 0, true, X1t_workOut), (78, 1, true, X1t_size)] : List (Nat × Nat × Bool × mT)), mCallOK vwCl 1 RX1 fdX1 3 q from List.forall_mem_cons.mpr ⟨⟨yX1_badV, cX1_badV, 2, some .boolean, 0, X1k_badV, by decide, by decide, ⟨rfl, by decide +kernel, by decide +kernel, by decide +kernel⟩, q379, q382, q35, ⟨q381, qs20⟩⟩, List.forall_mem_cons.mpr ⟨⟨yX1_workOut, cX1_workOut, 4, none, 2, X1k_workOut, by decide, by decide, ⟨rfl, by decide +kernel, by decide +kernel, by decide +kernel⟩, q383, q386, q35, ⟨q385, qs21⟩⟩, List.forall_mem_cons.mpr ⟨⟨yX1_size, cX1_size, 4, some .int, 0, X1k_size, by decide, by decide, ⟨rfl, by decide +kernel, by decide +kernel, by decide +kernel⟩, q395, q398, q35, ⟨q397, qs24⟩⟩, fun _ h => absurd h List.not_mem_nil⟩⟩⟩) X1d_copy
theorem X1k_load : mMet vwCl 1 fdX1 3 yX1_load cX1_load 4 (some .int) true X1t_load := mMet_of kdX1 rfl rfl X1b_load_ok (show ∀ q ∈ ([(93, 1, true, X1t_badV), (100, 1, true, X1t_badF), (97, 0, true, X1t_workOut), (78, 1, true, X1t_size)] : List (Nat × Nat × Bool × mT)), mCallOK vwCl 1 RX1 fdX1 3 q from List.forall_mem_cons.mpr ⟨⟨yX1_badV, cX1_badV, 2, some .boolean, 0, X1k_badV, by decide, by decide, ⟨rfl, by decide +kernel, by decide +kernel, by decide +kernel⟩, q379, q382, q35, ⟨q381, qs20⟩⟩, List.forall_mem_cons.mpr ⟨⟨yX1_badF, cX1_badF, 2, some .boolean, 0, X1k_badF, by decide, by decide, ⟨rfl, by decide +kernel, by decide +kernel, by decide +kernel⟩, q407, q410, q35, ⟨q409, qs25⟩⟩, List.forall_mem_cons.mpr ⟨⟨yX1_workOut, cX1_workOut, 4, none, 2, X1k_workOut, by decide, by decide, ⟨rfl, by decide +kernel, by decide +kernel, by decide +kernel⟩, q383, q386, q35, ⟨q385, qs21⟩⟩, List.forall_mem_cons.mpr ⟨⟨yX1_size, cX1_size, 4, some .int, 0, X1k_size, by decide, by decide, ⟨rfl, by decide +kernel, by decide +kernel, by decide +kernel⟩, q395, q398, q35, ⟨q397, qs24⟩⟩, fun _ h => absurd h List.not_mem_nil⟩⟩⟩⟩) X1d_load
theorem X1k_store : mMet vwCl 1 fdX1 1 yX1_store cX1_store 4 (some .int) true X1t_store := mMet_of kdX1 rfl rfl X1b_store_ok (show ∀ q ∈ ([(93, 1, true, X1t_badV), (100, 1, true, X1t_badF)] : List (Nat × Nat × Bool × mT)), mCallOK vwCl 1 RX1 fdX1 1 q from List.forall_mem_cons.mpr ⟨⟨yX1_badV, cX1_badV, 2, some .boolean, 0, X1k_badV, by decide, by decide, ⟨rfl, by decide +kernel, by decide +kernel, by decide +kernel⟩, q379, q382, q35, ⟨q381, qs20⟩⟩, List.forall_mem_cons.mpr ⟨⟨yX1_badF, cX1_badF, 2, some .boolean, 0, X1k_badF, by decide, by decide, ⟨rfl, by decide +kernel, by decide +kernel, by decide +kernel⟩, q407, q410, q35, ⟨q409, qs25⟩⟩, fun _ h => absurd h List.not_mem_nil⟩⟩) X1d_store
theorem X1k_once : mMet vwCl 1 fdX1 0 yX1_once cX1_once 4 (some .int) true X1t_once := mMet_of kdX1 rfl rfl X1b_once_ok (show ∀ q ∈ ([] : List (Nat × Nat × Bool × mT)), mCallOK vwCl 1 RX1 fdX1 0 q from fun _ h => absurd h List.not_mem_nil) X1d_once
theorem X1k_region : mMet vwCl 1 fdX1 1 yX1_region cX1_region 4 (some .int) true X1t_region := mMet_of kdX1 rfl rfl X1b_region_ok (show ∀ q ∈ ([(93, 1, true, X1t_badV)] : List (Nat × Nat × Bool × mT)), mCallOK vwCl 1 RX1 fdX1 1 q from List.forall_mem_cons.mpr ⟨⟨yX1_badV, cX1_badV, 2, some .boolean, 0, X1k_badV, by decide, by decide, ⟨rfl, by decide +kernel, by decide +kernel, by decide +kernel⟩, q379, q382, q35, ⟨q381, qs20⟩⟩, fun _ h => absurd h List.not_mem_nil⟩) X1d_region
theorem X1k_badPlace : mMet vwCl 1 fdX1 0 yX1_badPlace cX1_badPlace 2 (some .boolean) true X1t_badPlace := mMet_of kdX1 rfl rfl X1b_badPlace_ok (show ∀ q ∈ ([] : List (Nat × Nat × Bool × mT)), mCallOK vwCl 1 RX1 fdX1 0 q from fun _ h => absurd h List.not_mem_nil) X1d_badPlace
theorem X1k_access : mMet vwCl 1 fdX1 1 yX1_access cX1_access 5 (some .int) true X1t_access := mMet_of kdX1 rfl rfl X1b_access_ok (show ∀ q ∈ ([(106, 1, true, X1t_badPlace), (93, 1, true, X1t_badV), (100, 1, true, X1t_badF)] : List (Nat × Nat × Bool × mT)), mCallOK vwCl 1 RX1 fdX1 1 q from List.forall_mem_cons.mpr ⟨⟨yX1_badPlace, cX1_badPlace, 2, some .boolean, 0, X1k_badPlace, by decide, by decide, ⟨rfl, by decide +kernel, by decide +kernel, by decide +kernel⟩, q427, q430, q35, ⟨q429, qs26⟩⟩, List.forall_mem_cons.mpr ⟨⟨yX1_badV, cX1_badV, 2, some .boolean, 0, X1k_badV, by decide, by decide, ⟨rfl, by decide +kernel, by decide +kernel, by decide +kernel⟩, q379, q382, q35, ⟨q381, qs20⟩⟩, List.forall_mem_cons.mpr ⟨⟨yX1_badF, cX1_badF, 2, some .boolean, 0, X1k_badF, by decide, by decide, ⟨rfl, by decide +kernel, by decide +kernel, by decide +kernel⟩, q407, q410, q35, ⟨q409, qs25⟩⟩, fun _ h => absurd h List.not_mem_nil⟩⟩⟩) X1d_access
theorem X1k_pointsTo : mMet vwCl 1 fdX1 3 yX1_pointsTo cX1_pointsTo 2 (some .int) true X1t_pointsTo := mMet_of kdX1 rfl rfl X1b_pointsTo_ok (show ∀ q ∈ ([(93, 1, true, X1t_badV), (97, 0, true, X1t_workOut)] : List (Nat × Nat × Bool × mT)), mCallOK vwCl 1 RX1 fdX1 3 q from List.forall_mem_cons.mpr ⟨⟨yX1_badV, cX1_badV, 2, some .boolean, 0, X1k_badV, by decide, by decide, ⟨rfl, by decide +kernel, by decide +kernel, by decide +kernel⟩, q379, q382, q35, ⟨q381, qs20⟩⟩, List.forall_mem_cons.mpr ⟨⟨yX1_workOut, cX1_workOut, 4, none, 2, X1k_workOut, by decide, by decide, ⟨rfl, by decide +kernel, by decide +kernel, by decide +kernel⟩, q383, q386, q35, ⟨q385, qs21⟩⟩, fun _ h => absurd h List.not_mem_nil⟩⟩) X1d_pointsTo
theorem X1k_holds : mMet vwCl 1 fdX1 3 yX1_holds cX1_holds 3 (some .int) true X1t_holds := mMet_of kdX1 rfl rfl X1b_holds_ok (show ∀ q ∈ ([(100, 1, true, X1t_badF), (97, 0, true, X1t_workOut)] : List (Nat × Nat × Bool × mT)), mCallOK vwCl 1 RX1 fdX1 3 q from List.forall_mem_cons.mpr ⟨⟨yX1_badF, cX1_badF, 2, some .boolean, 0, X1k_badF, by decide, by decide, ⟨rfl, by decide +kernel, by decide +kernel, by decide +kernel⟩, q407, q410, q35, ⟨q409, qs25⟩⟩, List.forall_mem_cons.mpr ⟨⟨yX1_workOut, cX1_workOut, 4, none, 2, X1k_workOut, by decide, by decide, ⟨rfl, by decide +kernel, by decide +kernel, by decide +kernel⟩, q383, q386, q35, ⟨q385, qs21⟩⟩, fun _ h => absurd h List.not_mem_nil⟩⟩) X1d_holds
theorem X1k_threadAt : mMet vwCl 1 fdX1 0 yX1_threadAt cX1_threadAt 2 (some .int) true X1t_threadAt := mMet_of kdX1 rfl rfl X1b_threadAt_ok (show ∀ q ∈ ([] : List (Nat × Nat × Bool × mT)), mCallOK vwCl 1 RX1 fdX1 0 q from fun _ h => absurd h List.not_mem_nil) X1d_threadAt
theorem X1k_held : mMet vwCl 1 fdX1 3 yX1_held cX1_held 6 (some .int) true X1t_held := mMet_of kdX1 rfl rfl X1b_held_ok (show ∀ q ∈ ([(106, 1, true, X1t_badPlace), (97, 0, true, X1t_workOut)] : List (Nat × Nat × Bool × mT)), mCallOK vwCl 1 RX1 fdX1 3 q from List.forall_mem_cons.mpr ⟨⟨yX1_badPlace, cX1_badPlace, 2, some .boolean, 0, X1k_badPlace, by decide, by decide, ⟨rfl, by decide +kernel, by decide +kernel, by decide +kernel⟩, q427, q430, q35, ⟨q429, qs26⟩⟩, List.forall_mem_cons.mpr ⟨⟨yX1_workOut, cX1_workOut, 4, none, 2, X1k_workOut, by decide, by decide, ⟨rfl, by decide +kernel, by decide +kernel, by decide +kernel⟩, q383, q386, q35, ⟨q385, qs21⟩⟩, fun _ h => absurd h List.not_mem_nil⟩⟩) X1d_held
theorem X1k_race : mMet vwCl 1 fdX1 4 yX1_race cX1_race 3 (some .boolean) true X1t_race := mMet_of kdX1 rfl rfl X1b_race_ok (show ∀ q ∈ ([(112, 1, true, X1t_threadAt), (97, 0, true, X1t_workOut), (115, 1, true, X1t_held)] : List (Nat × Nat × Bool × mT)), mCallOK vwCl 1 RX1 fdX1 4 q from List.forall_mem_cons.mpr ⟨⟨yX1_threadAt, cX1_threadAt, 2, some .int, 0, X1k_threadAt, by decide, by decide, ⟨rfl, by decide +kernel, by decide +kernel, by decide +kernel⟩, q443, q446, q35, ⟨q445, qs27⟩⟩, List.forall_mem_cons.mpr ⟨⟨yX1_workOut, cX1_workOut, 4, none, 2, X1k_workOut, by decide, by decide, ⟨rfl, by decide +kernel, by decide +kernel, by decide +kernel⟩, q383, q386, q35, ⟨q385, qs21⟩⟩, List.forall_mem_cons.mpr ⟨⟨yX1_held, cX1_held, 6, some .int, 3, X1k_held, by decide, by decide, ⟨rfl, by decide +kernel, by decide +kernel, by decide +kernel⟩, q447, q450, q35, ⟨q448, q449⟩⟩, fun _ h => absurd h List.not_mem_nil⟩⟩⟩) X1d_race
theorem X1k_races : mMet vwCl 1 fdX1 5 yX1_races cX1_races 4 (some .int) true X1t_races := mMet_of kdX1 rfl rfl X1b_races_ok (show ∀ q ∈ ([(118, 2, true, X1t_race)] : List (Nat × Nat × Bool × mT)), mCallOK vwCl 1 RX1 fdX1 5 q from List.forall_mem_cons.mpr ⟨⟨yX1_race, cX1_race, 3, some .boolean, 4, X1k_race, by decide, by decide, ⟨rfl, by decide +kernel, by decide +kernel, by decide +kernel⟩, q455, q442, q35, ⟨q440, q441⟩⟩, fun _ h => absurd h List.not_mem_nil⟩) X1d_races
theorem X1k_step : mMet vwCl 1 fdX1 0 yX1_step cX1_step 6 (none) true X1t_step := mMet_of kdX1 rfl rfl X1b_step_ok (show ∀ q ∈ ([] : List (Nat × Nat × Bool × mT)), mCallOK vwCl 1 RX1 fdX1 0 q from fun _ h => absurd h List.not_mem_nil) X1d_step
theorem X1k_allSteps : mMet vwCl 1 fdX1 1 yX1_allSteps cX1_allSteps 4 (none) true X1t_allSteps := mMet_of kdX1 rfl rfl X1b_allSteps_ok (show ∀ q ∈ ([(122, 3, true, X1t_step)] : List (Nat × Nat × Bool × mT)), mCallOK vwCl 1 RX1 fdX1 1 q from List.forall_mem_cons.mpr ⟨⟨yX1_step, cX1_step, 6, none, 0, X1k_step, by decide, by decide, ⟨rfl, by decide +kernel, by decide +kernel, by decide +kernel⟩, q465, q468, q35, ⟨q467, qs29⟩⟩, fun _ h => absurd h List.not_mem_nil⟩) X1d_allSteps
theorem X1k_beyond : mMet vwCl 1 fdX1 0 yX1_beyond cX1_beyond 4 (some .int) true X1t_beyond := mMet_of kdX1 rfl rfl X1b_beyond_ok (show ∀ q ∈ ([] : List (Nat × Nat × Bool × mT)), mCallOK vwCl 1 RX1 fdX1 0 q from fun _ h => absurd h List.not_mem_nil) X1d_beyond
theorem X1k_allWays : mMet vwCl 1 fdX1 1 yX1_allWays cX1_allWays 3 (none) true X1t_allWays := mMet_of kdX1 rfl rfl X1b_allWays_ok (show ∀ q ∈ ([(126, 1, true, X1t_beyond)] : List (Nat × Nat × Bool × mT)), mCallOK vwCl 1 RX1 fdX1 1 q from List.forall_mem_cons.mpr ⟨⟨yX1_beyond, cX1_beyond, 4, some .int, 0, X1k_beyond, by decide, by decide, ⟨rfl, by decide +kernel, by decide +kernel, by decide +kernel⟩, q473, q476, q35, ⟨q475, qs31⟩⟩, fun _ h => absurd h List.not_mem_nil⟩) X1d_allWays
theorem X1k_threadsAround : mMet vwCl 1 fdX1 1 yX1_threadsAround cX1_threadsAround 6 (some .int) true X1t_threadsAround := mMet_of kdX1 rfl rfl X1b_threadsAround_ok (show ∀ q ∈ ([(78, 1, true, X1t_size)] : List (Nat × Nat × Bool × mT)), mCallOK vwCl 1 RX1 fdX1 1 q from List.forall_mem_cons.mpr ⟨⟨yX1_size, cX1_size, 4, some .int, 0, X1k_size, by decide, by decide, ⟨rfl, by decide +kernel, by decide +kernel, by decide +kernel⟩, q395, q398, q35, ⟨q397, qs24⟩⟩, fun _ h => absurd h List.not_mem_nil⟩) X1d_threadsAround
theorem X1k_danger : mMet vwCl 1 fdX1 3 yX1_danger cX1_danger 3 (some .int) true X1t_danger := mMet_of kdX1 rfl rfl X1b_danger_ok (show ∀ q ∈ ([(97, 0, true, X1t_workOut), (129, 0, true, X1t_allSteps), (132, 0, true, X1t_allWays), (135, 1, true, X1t_threadsAround)] : List (Nat × Nat × Bool × mT)), mCallOK vwCl 1 RX1 fdX1 3 q from List.forall_mem_cons.mpr ⟨⟨yX1_workOut, cX1_workOut, 4, none, 2, X1k_workOut, by decide, by decide, ⟨rfl, by decide +kernel, by decide +kernel, by decide +kernel⟩, q383, q386, q35, ⟨q385, qs21⟩⟩, List.forall_mem_cons.mpr ⟨⟨yX1_allSteps, cX1_allSteps, 4, none, 1, X1k_allSteps, by decide, by decide, ⟨rfl, by decide +kernel, by decide +kernel, by decide +kernel⟩, q461, q464, q35, ⟨q463, qs28⟩⟩, List.forall_mem_cons.mpr ⟨⟨yX1_allWays, cX1_allWays, 3, none, 1, X1k_allWays, by decide, by decide, ⟨rfl, by decide +kernel, by decide +kernel, by decide +kernel⟩, q469, q472, q35, ⟨q471, qs30⟩⟩, List.forall_mem_cons.mpr ⟨⟨yX1_threadsAround, cX1_threadsAround, 6, some .int, 1, X1k_threadsAround, by decide, by decide, ⟨rfl, by decide +kernel, by decide +kernel, by decide +kernel⟩, q477, q480, q35, ⟨q479, qs32⟩⟩, fun _ h => absurd h List.not_mem_nil⟩⟩⟩⟩) X1d_danger
end
section
/-! constructors: the world while the arrays are made; one field's four instructions -/
set_option maxRecDepth 100000
def iks (fd : List (Nat × Nat)) (b : Nat) : List Nat := (List.range b).filter (fun k => Nat.ble 2 (fcode fd k))
def ifld (fd : List (Nat × Nat)) (α : Nat → Nat) (b k : Nat) : Value := if Nat.ble 2 (fcode fd k) = true then (if k < b then .ref (α k) else .null) else .int 0
def iflds (fd : List (Nat × Nat)) (α : Nat → Nat) (b : Nat) : List Value := (List.range fd.length).map (ifld fd α b)
def sgz : mS := fun _ _ => 0
def iW (ci : Nat) (fd : List (Nat × Nat)) (cI cZ : ClassId) (α : Nat → Nat) (b : Nat) : va_W := (α 99, .inr (ci, iflds fd α b)) :: (iks fd b).map (mcell fd cI cZ α sgz)
def aU (α : Nat → Nat) (k q : Nat) : Nat → Nat := fun j => if j = k then q else α j
theorem iW_end (ci : Nat) (fd : List (Nat × Nat)) (cI cZ : ClassId) (α : Nat → Nat) : iW ci fd cI cZ α fd.length = mW ci fd cI cZ α sgz := by
  unfold iW mW
  congr 3
  unfold iflds mflds
  congr 1
  refine List.map_congr_left fun k hk => ?_
  rw [List.mem_range] at hk
  unfold ifld mfv
  cases h : Nat.ble 2 (fcode fd k)
  · rfl
  · rw [if_pos rfl, if_pos hk]
    rfl
theorem iW_skip {ci : Nat} {fd : List (Nat × Nat)} {cI cZ : ClassId} {α : Nat → Nat} {b : Nat} (h : fcode fd b < 2) : iW ci fd cI cZ α (b + 1) = iW ci fd cI cZ α b := by
  have hb : Nat.ble 2 (fcode fd b) = false := by
    cases hb : Nat.ble 2 (fcode fd b)
    · rfl
    · have := Nat.ble_eq.mp hb
      omega
  have e1 : iks fd (b + 1) = iks fd b := by
    unfold iks
    rw [List.range_succ, List.filter_append]
    simp [hb]
  have e2 : iflds fd α (b + 1) = iflds fd α b := by
    unfold iflds
    refine List.map_congr_left fun k hk => ?_
    unfold ifld
    by_cases e : k = b
    · subst e
      rw [hb]
      rfl
    · have : (k < b + 1) = (k < b) := by
        refine propext ⟨fun q => by omega, fun q => by omega⟩
      simp only [this]
  unfold iW
  rw [e1, e2]
theorem iW_gap {ci : Nat} {fd : List (Nat × Nat)} {cI cZ : ClassId} {α : Nat → Nat} {b : Nat} : ∀ (n : Nat), (∀ i, i < b + n → b ≤ i → fcode fd i < 2) → iW ci fd cI cZ α (b + n) = iW ci fd cI cZ α b
  | 0, _ => rfl
  | n + 1, h => by
    rw [← Nat.add_assoc, iW_skip (h (b + n) (by omega) (by omega))]
    exact iW_gap n (fun i hi hb => h i (by omega) hb)
theorem iW_push {ci : Nat} {fd : List (Nat × Nat)} {cI cZ : ClassId} {α : Nat → Nat} {k q : Nat} (hk2 : 2 ≤ fcode fd k) (hk : k < fd.length) (h99 : 99 ≠ k) :
    (iW ci fd cI cZ α k ++ [((q, Sum.inl (if fcode fd k = 3 then cZ else cI, flen fd k, Sum.inl (fun _ => 0))) : Nat × va_E)]).set 0 (α 99, Sum.inr (ci, (iflds fd α k).set k (.ref q))) = iW ci fd cI cZ (aU α k q) (k + 1) := by
  have hb : Nat.ble 2 (fcode fd k) = true := Nat.ble_eq.mpr hk2
  unfold iW
  rw [List.cons_append, List.set_cons_zero]
  congr 1
  · have e9 : aU α k q 99 = α 99 := if_neg h99
    rw [e9]
    congr 3
    unfold iflds
    have hq : Value.ref q = ifld fd (aU α k q) (k + 1) k := by
      unfold ifld aU
      rw [if_pos hb, if_pos (by omega), if_pos rfl]
    rw [hq]
    refine m_set_map (f := ifld fd α k) (g := ifld fd (aU α k q) (k + 1)) (List.range fd.length) k k List.nodup_range (by simp [hk]) fun k' _ hne => ?_
    unfold ifld aU
    rw [if_neg hne]
    have : (k' < k + 1) = (k' < k) := by
      refine propext ⟨fun q => by omega, fun q => by omega⟩
    simp only [this]
  · have e1 : iks fd (k + 1) = iks fd k ++ [k] := by
      unfold iks
      rw [List.range_succ, List.filter_append]
      simp [hb]
    rw [e1, List.map_append]
    congr 1
    · refine List.map_congr_left fun k' hk' => ?_
      have hlt : k' < k := List.mem_range.mp (List.mem_filter.mp hk').1
      unfold mcell aU
      rw [if_neg (show ¬ k' = k by omega)]
    · unfold mcell aU
      simp only [List.map_cons, List.map_nil, if_true]
      rfl
section IN
variable {p : Program} {l : Launch} {e : Env} {R : Room} {s : State} {m : MethodId} {args : Array Value} {below : List Frame} {meth : Method} {c : Code} {H : Heap} {locs : List Loc} {cells slots : Nat} {Q : State → Prop} {pc : Nat} {ls : Array Slot}
variable {D : va_G} {cl : List vw_C} {ci : Nat} {C : String} {T : u_T} {N : Nat} {ty : Nat → FieldType} {fd fl : List (Nat × Nat)} {cI cZ : ClassId} {α : Nat → Nat} {A : Nat → Prop} {nL : Nat} {cc : ByteArray} {H0 : Heap}
set_option maxHeartbeats 4000000 in
theorem ini_blk (κ : mKd cl ci C T N ty fd fl) (hx : p.tables.exec = Jvm.exec) (hb : c.code = cc) (hts : ∀ w ∈ lw_all, w.before args s = true) (hown : s.vm.findClass C = some m.cls) (hin : meth.name = "<init>")
    (hK : va_K D cl [(cI, .int), (cZ, .boolean)] s) (hA : ∀ q, H0.size ≤ q → A q) (hl0 : ls[0]? = some (.val (.ref (α 99))))
    {b : Nat} (hP : va_P D cl (iW ci fd cI cZ α b) H) (hD : va_D A (iW ci fd cI cZ α b)) (hS : va_S A H0 H locs)
    (k gap : Nat) (hbk : k = b + gap) (hgap : ∀ i, i < b + gap → b ≤ i → fcode fd i < 2) (hkN : k < N) (hk2 : 2 ≤ fcode fd k) (h99 : 99 ≠ k) (hfin : (T k).2.2.2 = true) {at0 : ArrayType} {ft : FieldType} (hat : newarray.typeOf at0 = ft) (hft : ft = .int ∧ fcode fd k = 2 ∨ ft = .boolean ∧ fcode fd k = 3) (htk : ty k = .array ft)
    {idx : Nat} (hlink : Jvm.Cond.fieldLink C idx C (T k).2.1 (T k).2.2.1 ∈ lw_all) {n : Int} {len c2 n2 : Nat} (hn : (Int8.ofInt n).toInt32 = nI len) (hln : len < 2 ^ 20) (hlen : flen fd k = len) (hc2 : cells + 1 = c2) (hn2 : slots + len = n2) (hcells : c2 ≤ R.cells) (hslots : n2 ≤ R.slots)
    (d1 : decode cc pc = .ok (.aload_n 0, 1)) (d2 : decode cc (pc + 1) = .ok (.bipush n, 2)) (d3 : decode cc (pc + 3) = .ok (.newarray at0, 2)) (d4 : decode cc (pc + 5) = .ok (.putfield idx, 3))
    (kk : ∀ (α' : Nat → Nat) (H1 : Heap) (locs1 : List Loc), α' 99 = α 99 → va_P D cl (iW ci fd cI cZ α' (k + 1)) H1 → va_D A (iW ci fd cI cZ α' (k + 1)) → va_S A H0 H1 locs1 → W p l e R s m args below meth c H1 locs1 c2 n2 Q (F0 m (pc + 8) ls [])) : W p l e R s m args below meth c H locs cells slots Q (F0 m pc ls []) := by
  obtain ⟨k1, k2, k3, k4, k5, k6, k7, k8, k9⟩ := κ
  have hgp := iW_gap (ci := ci) (cI := cI) (cZ := cZ) (α := α) gap hgap
  rw [← hbk] at hgp
  rw [← hgp] at hP hD
  refine lv_aload_n hx hb d1 rfl hl0 ?_
  refine lv_bipush hx hb d2 hn ?_
  have harr : (Cond.arrayClass (newarray.typeOf at0)).before args s = true := by
    rw [hat]
    rcases hft with h | h
    · rw [h.1]; exact hts _ q144
    · rw [h.1]; exact hts _ q145
  have hbyt : len * componentBytes ft ≤ 536870912 := by
    have : componentBytes ft ≤ 4 := by
      rcases hft with h | h <;> rw [h.1] <;> decide
    have : len * componentBytes ft ≤ 2 ^ 20 * 4 := Nat.mul_le_mul (by omega) this
    omega
  refine va_newa (a0 := (len, .inl (fun _ => 0))) hx hb harr hat hK hP hD hS hA (fun cA => ?_) (nI_pos (by omega)) (nI_clamp (by omega)) hbyt (by omega) (by omega) d3 (fun q cA H1 hK1 hP1 hD1 hS1 => ?_)
  · rcases hft with h | h <;> rw [h.1] <;> rfl
  · have hcA : cA = if fcode fd k = 3 then cZ else cI := by
      have h3 : va_RA s cA ft := (hK1.2 2 (cA, ft) rfl).2
      rcases hft with h | h
      · rw [h.1] at h3
        have h1 : va_RA s cI .int := (hK.2 0 (cI, .int) rfl).2
        rw [if_neg (by rw [h.2]; decide)]
        exact Option.some.inj ((va_nm_int h3).symm.trans (va_nm_int h1))
      · rw [h.1] at h3
        have h1 : va_RA s cZ .boolean := (hK.2 1 (cZ, .boolean) rfl).2
        rw [if_pos h.2]
        exact Option.some.inj ((va_nm_boolean h3).symm.trans (va_nm_boolean h1))
    rw [hcA, ← hlen] at hP1 hD1
    rw [hc2, hn2]
    refine va_putF (C := C) (T := T) (N := N) (ci := ci) (ref := C) (a := α 99) (v := .ref q) (ty := .array ft) (fs := iflds fd α k) hx hb hts k3 ty k4 k5 hown hK hP1 hD1 hS1 0 rfl k1 k hkN (hts _ hlink) (fun x hx => by rw [k7 k hkN] at hx; exact hx) hfin hin (k7 k hkN) (by rw [k4 k hkN, htk]) rfl rfl (by unfold iflds; rw [List.length_map, List.length_range, k2]; exact hkN) d4 (fun H2 locs2 hP2 hD2 hS2 => ?_)
    rw [iW_push hk2 (by rw [k2]; exact hkN) h99] at hP2 hD2
    exact kk (aU α k q) H2 locs2 (if_neg h99) hP2 hD2 hS2
end IN
end
section
/-! printed by gen/ini.py: the constructors -/
set_option maxRecDepth 100000
theorem dX0_init_0 : decode cX0_init 0 = .ok (.aload_n 0, 1) := by decide +kernel
theorem dX0_init_1 : decode cX0_init 1 = .ok (.invokespecial 1, 3) := by decide +kernel
theorem dX0_init_4 : decode cX0_init 4 = .ok (.aload_n 0, 1) := by decide +kernel
theorem dX0_init_5 : decode cX0_init 5 = .ok (.bipush 28, 2) := by decide +kernel
theorem dX0_init_7 : decode cX0_init 7 = .ok (.newarray .int, 2) := by decide +kernel
theorem dX0_init_9 : decode cX0_init 9 = .ok (.putfield 7, 3) := by decide +kernel
theorem dX0_init_12 : decode cX0_init 12 = .ok (.aload_n 0, 1) := by decide +kernel
theorem dX0_init_13 : decode cX0_init 13 = .ok (.bipush 28, 2) := by decide +kernel
theorem dX0_init_15 : decode cX0_init 15 = .ok (.newarray .int, 2) := by decide +kernel
theorem dX0_init_17 : decode cX0_init 17 = .ok (.putfield 13, 3) := by decide +kernel
theorem dX0_init_20 : decode cX0_init 20 = .ok (.aload_n 0, 1) := by decide +kernel
theorem dX0_init_21 : decode cX0_init 21 = .ok (.bipush 28, 2) := by decide +kernel
theorem dX0_init_23 : decode cX0_init 23 = .ok (.newarray .int, 2) := by decide +kernel
theorem dX0_init_25 : decode cX0_init 25 = .ok (.putfield 16, 3) := by decide +kernel
theorem dX0_init_28 : decode cX0_init 28 = .ok (.aload_n 0, 1) := by decide +kernel
theorem dX0_init_29 : decode cX0_init 29 = .ok (.bipush 28, 2) := by decide +kernel
theorem dX0_init_31 : decode cX0_init 31 = .ok (.newarray .int, 2) := by decide +kernel
theorem dX0_init_33 : decode cX0_init 33 = .ok (.putfield 19, 3) := by decide +kernel
theorem dX0_init_36 : decode cX0_init 36 = .ok (.aload_n 0, 1) := by decide +kernel
theorem dX0_init_37 : decode cX0_init 37 = .ok (.bipush 28, 2) := by decide +kernel
theorem dX0_init_39 : decode cX0_init 39 = .ok (.newarray .boolean, 2) := by decide +kernel
theorem dX0_init_41 : decode cX0_init 41 = .ok (.putfield 22, 3) := by decide +kernel
theorem dX0_init_44 : decode cX0_init 44 = .ok (.aload_n 0, 1) := by decide +kernel
theorem dX0_init_45 : decode cX0_init 45 = .ok (.bipush 32, 2) := by decide +kernel
theorem dX0_init_47 : decode cX0_init 47 = .ok (.newarray .int, 2) := by decide +kernel
theorem dX0_init_49 : decode cX0_init 49 = .ok (.putfield 26, 3) := by decide +kernel
theorem dX0_init_52 : decode cX0_init 52 = .ok (.aload_n 0, 1) := by decide +kernel
theorem dX0_init_53 : decode cX0_init 53 = .ok (.bipush 20, 2) := by decide +kernel
theorem dX0_init_55 : decode cX0_init 55 = .ok (.newarray .int, 2) := by decide +kernel
theorem dX0_init_57 : decode cX0_init 57 = .ok (.putfield 29, 3) := by decide +kernel
theorem dX0_init_60 : decode cX0_init 60 = .ok (.aload_n 0, 1) := by decide +kernel
theorem dX0_init_61 : decode cX0_init 61 = .ok (.bipush 20, 2) := by decide +kernel
theorem dX0_init_63 : decode cX0_init 63 = .ok (.newarray .int, 2) := by decide +kernel
theorem dX0_init_65 : decode cX0_init 65 = .ok (.putfield 32, 3) := by decide +kernel
theorem dX0_init_68 : decode cX0_init 68 = .ok (.aload_n 0, 1) := by decide +kernel
theorem dX0_init_69 : decode cX0_init 69 = .ok (.bipush 20, 2) := by decide +kernel
theorem dX0_init_71 : decode cX0_init 71 = .ok (.newarray .int, 2) := by decide +kernel
theorem dX0_init_73 : decode cX0_init 73 = .ok (.putfield 35, 3) := by decide +kernel
theorem dX0_init_76 : decode cX0_init 76 = .ok (.aload_n 0, 1) := by decide +kernel
theorem dX0_init_77 : decode cX0_init 77 = .ok (.bipush 20, 2) := by decide +kernel
theorem dX0_init_79 : decode cX0_init 79 = .ok (.newarray .int, 2) := by decide +kernel
theorem dX0_init_81 : decode cX0_init 81 = .ok (.putfield 38, 3) := by decide +kernel
theorem dX0_init_84 : decode cX0_init 84 = .ok (.aload_n 0, 1) := by decide +kernel
theorem dX0_init_85 : decode cX0_init 85 = .ok (.bipush 20, 2) := by decide +kernel
theorem dX0_init_87 : decode cX0_init 87 = .ok (.newarray .int, 2) := by decide +kernel
theorem dX0_init_89 : decode cX0_init 89 = .ok (.putfield 41, 3) := by decide +kernel
theorem dX0_init_92 : decode cX0_init 92 = .ok (.aload_n 0, 1) := by decide +kernel
theorem dX0_init_93 : decode cX0_init 93 = .ok (.bipush 20, 2) := by decide +kernel
theorem dX0_init_95 : decode cX0_init 95 = .ok (.newarray .int, 2) := by decide +kernel
theorem dX0_init_97 : decode cX0_init 97 = .ok (.putfield 44, 3) := by decide +kernel
theorem dX0_init_100 : decode cX0_init 100 = .ok (.aload_n 0, 1) := by decide +kernel
theorem dX0_init_101 : decode cX0_init 101 = .ok (.bipush 12, 2) := by decide +kernel
theorem dX0_init_103 : decode cX0_init 103 = .ok (.newarray .int, 2) := by decide +kernel
theorem dX0_init_105 : decode cX0_init 105 = .ok (.putfield 47, 3) := by decide +kernel
theorem dX0_init_108 : decode cX0_init 108 = .ok (.aload_n 0, 1) := by decide +kernel
theorem dX0_init_109 : decode cX0_init 109 = .ok (.bipush 12, 2) := by decide +kernel
theorem dX0_init_111 : decode cX0_init 111 = .ok (.newarray .int, 2) := by decide +kernel
theorem dX0_init_113 : decode cX0_init 113 = .ok (.putfield 50, 3) := by decide +kernel
theorem dX0_init_116 : decode cX0_init 116 = .ok (.aload_n 0, 1) := by decide +kernel
theorem dX0_init_117 : decode cX0_init 117 = .ok (.bipush 12, 2) := by decide +kernel
theorem dX0_init_119 : decode cX0_init 119 = .ok (.newarray .int, 2) := by decide +kernel
theorem dX0_init_121 : decode cX0_init 121 = .ok (.putfield 53, 3) := by decide +kernel
theorem dX0_init_124 : decode cX0_init 124 = .ok (.aload_n 0, 1) := by decide +kernel
theorem dX0_init_125 : decode cX0_init 125 = .ok (.bipush 16, 2) := by decide +kernel
theorem dX0_init_127 : decode cX0_init 127 = .ok (.newarray .int, 2) := by decide +kernel
theorem dX0_init_129 : decode cX0_init 129 = .ok (.putfield 56, 3) := by decide +kernel
theorem dX0_init_132 : decode cX0_init 132 = .ok (.aload_n 0, 1) := by decide +kernel
theorem dX0_init_133 : decode cX0_init 133 = .ok (.bipush 16, 2) := by decide +kernel
theorem dX0_init_135 : decode cX0_init 135 = .ok (.newarray .int, 2) := by decide +kernel
theorem dX0_init_137 : decode cX0_init 137 = .ok (.putfield 59, 3) := by decide +kernel
theorem dX0_init_140 : decode cX0_init 140 = .ok (.aload_n 0, 1) := by decide +kernel
theorem dX0_init_141 : decode cX0_init 141 = .ok (.bipush 16, 2) := by decide +kernel
theorem dX0_init_143 : decode cX0_init 143 = .ok (.newarray .int, 2) := by decide +kernel
theorem dX0_init_145 : decode cX0_init 145 = .ok (.putfield 62, 3) := by decide +kernel
theorem dX0_init_148 : decode cX0_init 148 = .ok (.aload_n 0, 1) := by decide +kernel
theorem dX0_init_149 : decode cX0_init 149 = .ok (.bipush 16, 2) := by decide +kernel
theorem dX0_init_151 : decode cX0_init 151 = .ok (.newarray .boolean, 2) := by decide +kernel
theorem dX0_init_153 : decode cX0_init 153 = .ok (.putfield 65, 3) := by decide +kernel
theorem dX0_init_156 : decode cX0_init 156 = .ok (.aload_n 0, 1) := by decide +kernel
theorem dX0_init_157 : decode cX0_init 157 = .ok (.bipush 64, 2) := by decide +kernel
theorem dX0_init_159 : decode cX0_init 159 = .ok (.newarray .int, 2) := by decide +kernel
theorem dX0_init_161 : decode cX0_init 161 = .ok (.putfield 68, 3) := by decide +kernel
theorem dX0_init_164 : decode cX0_init 164 = .ok (.aload_n 0, 1) := by decide +kernel
theorem dX0_init_165 : decode cX0_init 165 = .ok (.bipush 8, 2) := by decide +kernel
theorem dX0_init_167 : decode cX0_init 167 = .ok (.newarray .int, 2) := by decide +kernel
theorem dX0_init_169 : decode cX0_init 169 = .ok (.putfield 71, 3) := by decide +kernel
theorem dX0_init_172 : decode cX0_init 172 = .ok (.aload_n 0, 1) := by decide +kernel
theorem dX0_init_173 : decode cX0_init 173 = .ok (.bipush 8, 2) := by decide +kernel
theorem dX0_init_175 : decode cX0_init 175 = .ok (.newarray .int, 2) := by decide +kernel
theorem dX0_init_177 : decode cX0_init 177 = .ok (.putfield 74, 3) := by decide +kernel
theorem dX0_init_180 : decode cX0_init 180 = .ok (.aload_n 0, 1) := by decide +kernel
theorem dX0_init_181 : decode cX0_init 181 = .ok (.bipush 9, 2) := by decide +kernel
theorem dX0_init_183 : decode cX0_init 183 = .ok (.newarray .int, 2) := by decide +kernel
theorem dX0_init_185 : decode cX0_init 185 = .ok (.putfield 77, 3) := by decide +kernel
theorem dX0_init_188 : decode cX0_init 188 = .ok (.aload_n 0, 1) := by decide +kernel
theorem dX0_init_189 : decode cX0_init 189 = .ok (.bipush 9, 2) := by decide +kernel
theorem dX0_init_191 : decode cX0_init 191 = .ok (.newarray .int, 2) := by decide +kernel
theorem dX0_init_193 : decode cX0_init 193 = .ok (.putfield 80, 3) := by decide +kernel
theorem dX0_init_196 : decode cX0_init 196 = .ok (.iconst 0, 1) := by decide +kernel
theorem dX0_init_197 : decode cX0_init 197 = .ok (.istore_n 1, 1) := by decide +kernel
theorem dX0_init_198 : decode cX0_init 198 = .ok (.iload_n 1, 1) := by decide +kernel
theorem dX0_init_199 : decode cX0_init 199 = .ok (.bipush 28, 2) := by decide +kernel
theorem dX0_init_201 : decode cX0_init 201 = .ok (.if_icmp .ge 16, 3) := by decide +kernel
theorem dX0_init_204 : decode cX0_init 204 = .ok (.aload_n 0, 1) := by decide +kernel
theorem dX0_init_205 : decode cX0_init 205 = .ok (.getfield 7, 3) := by decide +kernel
theorem dX0_init_208 : decode cX0_init 208 = .ok (.iload_n 1, 1) := by decide +kernel
theorem dX0_init_209 : decode cX0_init 209 = .ok (.iload_n 1, 1) := by decide +kernel
theorem dX0_init_210 : decode cX0_init 210 = .ok (.iastore, 1) := by decide +kernel
theorem dX0_init_211 : decode cX0_init 211 = .ok (.iinc 1 1, 3) := by decide +kernel
theorem dX0_init_214 : decode cX0_init 214 = .ok (.goto (-16), 3) := by decide +kernel
theorem dX0_init_217 : decode cX0_init 217 = .ok (.return_, 1) := by decide +kernel
theorem dX1_init_0 : decode cX1_init 0 = .ok (.aload_n 0, 1) := by decide +kernel
theorem dX1_init_1 : decode cX1_init 1 = .ok (.invokespecial 1, 3) := by decide +kernel
theorem dX1_init_4 : decode cX1_init 4 = .ok (.aload_n 0, 1) := by decide +kernel
theorem dX1_init_5 : decode cX1_init 5 = .ok (.bipush 12, 2) := by decide +kernel
theorem dX1_init_7 : decode cX1_init 7 = .ok (.newarray .int, 2) := by decide +kernel
theorem dX1_init_9 : decode cX1_init 9 = .ok (.putfield 7, 3) := by decide +kernel
theorem dX1_init_12 : decode cX1_init 12 = .ok (.aload_n 0, 1) := by decide +kernel
theorem dX1_init_13 : decode cX1_init 13 = .ok (.bipush 12, 2) := by decide +kernel
theorem dX1_init_15 : decode cX1_init 15 = .ok (.newarray .int, 2) := by decide +kernel
theorem dX1_init_17 : decode cX1_init 17 = .ok (.putfield 13, 3) := by decide +kernel
theorem dX1_init_20 : decode cX1_init 20 = .ok (.aload_n 0, 1) := by decide +kernel
theorem dX1_init_21 : decode cX1_init 21 = .ok (.bipush 20, 2) := by decide +kernel
theorem dX1_init_23 : decode cX1_init 23 = .ok (.newarray .int, 2) := by decide +kernel
theorem dX1_init_25 : decode cX1_init 25 = .ok (.putfield 16, 3) := by decide +kernel
theorem dX1_init_28 : decode cX1_init 28 = .ok (.aload_n 0, 1) := by decide +kernel
theorem dX1_init_29 : decode cX1_init 29 = .ok (.bipush 20, 2) := by decide +kernel
theorem dX1_init_31 : decode cX1_init 31 = .ok (.newarray .int, 2) := by decide +kernel
theorem dX1_init_33 : decode cX1_init 33 = .ok (.putfield 19, 3) := by decide +kernel
theorem dX1_init_36 : decode cX1_init 36 = .ok (.aload_n 0, 1) := by decide +kernel
theorem dX1_init_37 : decode cX1_init 37 = .ok (.bipush 20, 2) := by decide +kernel
theorem dX1_init_39 : decode cX1_init 39 = .ok (.newarray .int, 2) := by decide +kernel
theorem dX1_init_41 : decode cX1_init 41 = .ok (.putfield 22, 3) := by decide +kernel
theorem dX1_init_44 : decode cX1_init 44 = .ok (.aload_n 0, 1) := by decide +kernel
theorem dX1_init_45 : decode cX1_init 45 = .ok (.bipush 20, 2) := by decide +kernel
theorem dX1_init_47 : decode cX1_init 47 = .ok (.newarray .int, 2) := by decide +kernel
theorem dX1_init_49 : decode cX1_init 49 = .ok (.putfield 25, 3) := by decide +kernel
theorem dX1_init_52 : decode cX1_init 52 = .ok (.aload_n 0, 1) := by decide +kernel
theorem dX1_init_53 : decode cX1_init 53 = .ok (.bipush 20, 2) := by decide +kernel
theorem dX1_init_55 : decode cX1_init 55 = .ok (.newarray .int, 2) := by decide +kernel
theorem dX1_init_57 : decode cX1_init 57 = .ok (.putfield 28, 3) := by decide +kernel
theorem dX1_init_60 : decode cX1_init 60 = .ok (.aload_n 0, 1) := by decide +kernel
theorem dX1_init_61 : decode cX1_init 61 = .ok (.bipush 20, 2) := by decide +kernel
theorem dX1_init_63 : decode cX1_init 63 = .ok (.newarray .int, 2) := by decide +kernel
theorem dX1_init_65 : decode cX1_init 65 = .ok (.putfield 31, 3) := by decide +kernel
theorem dX1_init_68 : decode cX1_init 68 = .ok (.aload_n 0, 1) := by decide +kernel
theorem dX1_init_69 : decode cX1_init 69 = .ok (.bipush 8, 2) := by decide +kernel
theorem dX1_init_71 : decode cX1_init 71 = .ok (.newarray .boolean, 2) := by decide +kernel
theorem dX1_init_73 : decode cX1_init 73 = .ok (.putfield 34, 3) := by decide +kernel
theorem dX1_init_76 : decode cX1_init 76 = .ok (.aload_n 0, 1) := by decide +kernel
theorem dX1_init_77 : decode cX1_init 77 = .ok (.bipush 12, 2) := by decide +kernel
theorem dX1_init_79 : decode cX1_init 79 = .ok (.newarray .int, 2) := by decide +kernel
theorem dX1_init_81 : decode cX1_init 81 = .ok (.putfield 38, 3) := by decide +kernel
theorem dX1_init_84 : decode cX1_init 84 = .ok (.aload_n 0, 1) := by decide +kernel
theorem dX1_init_85 : decode cX1_init 85 = .ok (.bipush 12, 2) := by decide +kernel
theorem dX1_init_87 : decode cX1_init 87 = .ok (.newarray .int, 2) := by decide +kernel
theorem dX1_init_89 : decode cX1_init 89 = .ok (.putfield 41, 3) := by decide +kernel
theorem dX1_init_92 : decode cX1_init 92 = .ok (.aload_n 0, 1) := by decide +kernel
theorem dX1_init_93 : decode cX1_init 93 = .ok (.bipush 12, 2) := by decide +kernel
theorem dX1_init_95 : decode cX1_init 95 = .ok (.newarray .int, 2) := by decide +kernel
theorem dX1_init_97 : decode cX1_init 97 = .ok (.putfield 44, 3) := by decide +kernel
theorem dX1_init_100 : decode cX1_init 100 = .ok (.aload_n 0, 1) := by decide +kernel
theorem dX1_init_101 : decode cX1_init 101 = .ok (.bipush 16, 2) := by decide +kernel
theorem dX1_init_103 : decode cX1_init 103 = .ok (.newarray .int, 2) := by decide +kernel
theorem dX1_init_105 : decode cX1_init 105 = .ok (.putfield 47, 3) := by decide +kernel
theorem dX1_init_108 : decode cX1_init 108 = .ok (.aload_n 0, 1) := by decide +kernel
theorem dX1_init_109 : decode cX1_init 109 = .ok (.bipush 16, 2) := by decide +kernel
theorem dX1_init_111 : decode cX1_init 111 = .ok (.newarray .int, 2) := by decide +kernel
theorem dX1_init_113 : decode cX1_init 113 = .ok (.putfield 50, 3) := by decide +kernel
theorem dX1_init_116 : decode cX1_init 116 = .ok (.aload_n 0, 1) := by decide +kernel
theorem dX1_init_117 : decode cX1_init 117 = .ok (.bipush 16, 2) := by decide +kernel
theorem dX1_init_119 : decode cX1_init 119 = .ok (.newarray .int, 2) := by decide +kernel
theorem dX1_init_121 : decode cX1_init 121 = .ok (.putfield 53, 3) := by decide +kernel
theorem dX1_init_124 : decode cX1_init 124 = .ok (.aload_n 0, 1) := by decide +kernel
theorem dX1_init_125 : decode cX1_init 125 = .ok (.bipush 16, 2) := by decide +kernel
theorem dX1_init_127 : decode cX1_init 127 = .ok (.newarray .boolean, 2) := by decide +kernel
theorem dX1_init_129 : decode cX1_init 129 = .ok (.putfield 56, 3) := by decide +kernel
theorem dX1_init_132 : decode cX1_init 132 = .ok (.aload_n 0, 1) := by decide +kernel
theorem dX1_init_133 : decode cX1_init 133 = .ok (.bipush 12, 2) := by decide +kernel
theorem dX1_init_135 : decode cX1_init 135 = .ok (.newarray .int, 2) := by decide +kernel
theorem dX1_init_137 : decode cX1_init 137 = .ok (.putfield 59, 3) := by decide +kernel
theorem dX1_init_140 : decode cX1_init 140 = .ok (.aload_n 0, 1) := by decide +kernel
theorem dX1_init_141 : decode cX1_init 141 = .ok (.bipush 16, 2) := by decide +kernel
theorem dX1_init_143 : decode cX1_init 143 = .ok (.newarray .int, 2) := by decide +kernel
theorem dX1_init_145 : decode cX1_init 145 = .ok (.putfield 62, 3) := by decide +kernel
theorem dX1_init_148 : decode cX1_init 148 = .ok (.aload_n 0, 1) := by decide +kernel
theorem dX1_init_149 : decode cX1_init 149 = .ok (.bipush 32, 2) := by decide +kernel
theorem dX1_init_151 : decode cX1_init 151 = .ok (.newarray .int, 2) := by decide +kernel
theorem dX1_init_153 : decode cX1_init 153 = .ok (.putfield 65, 3) := by decide +kernel
theorem dX1_init_156 : decode cX1_init 156 = .ok (.aload_n 0, 1) := by decide +kernel
theorem dX1_init_157 : decode cX1_init 157 = .ok (.bipush 8, 2) := by decide +kernel
theorem dX1_init_159 : decode cX1_init 159 = .ok (.newarray .int, 2) := by decide +kernel
theorem dX1_init_161 : decode cX1_init 161 = .ok (.putfield 68, 3) := by decide +kernel
theorem dX1_init_164 : decode cX1_init 164 = .ok (.return_, 1) := by decide +kernel
def fz (fd : List (Nat × Nat)) : List Value := (List.range fd.length).map (fun k => if Nat.ble 2 (fcode fd k) = true then .null else .int 0)
theorem fz_eq (fd : List (Nat × Nat)) (α : Nat → Nat) : iflds fd α 0 = fz fd := by
  unfold iflds fz
  refine List.map_congr_left fun k _ => ?_
  unfold ifld
  rw [if_neg (Nat.not_lt_zero k)]
theorem iW_0 (ci : Nat) (fd : List (Nat × Nat)) (cI cZ : ClassId) (α : Nat → Nat) : iW ci fd cI cZ α 0 = [(α 99, .inr (ci, fz fd))] := by
  unfold iW
  rw [fz_eq]
  rfl
/-- RaceFinder's cells behind its constructor -/
def IX (σ : mS) : Prop := (∀ j, j < 28 → σ 0 j = nI j) ∧ ∀ k, k ≠ 0 → σ k = sgz k
def IM (σ : mS) : Prop := σ = sgz
set_option maxHeartbeats 4000000 in
theorem X0_loop {p : Program} {l : Launch} {e : Env} {R : Room} {s : State} {m : MethodId} {args : Array Value} {below : List Frame} {meth : Method} {c : Code} {D : va_G} {cI cZ : ClassId} {α : Nat → Nat} {A : Nat → Prop} {cells slots : Nat} {Q : State → Prop}
    (hx : p.tables.exec = Jvm.exec) (hb : c.code = cX0_init) (hts : ∀ w ∈ lw_all, w.before args s = true) (hown : s.vm.findClass RX0 = some m.cls) (hK : va_K D vwCl [(cI, .int), (cZ, .boolean)] s)
    (kk : ∀ (σ : mS) (H : Heap) (locs : List Loc) (ls : Array Slot), IX σ → va_P D vwCl (mW 0 fdX0 cI cZ α σ) H → va_D A (mW 0 fdX0 cI cZ α σ) → va_S A s.heap H locs → W p l e R s m args below meth c H locs cells slots Q (F0 m 217 ls [])) :
    ∀ (n i : Nat), i ≤ 28 → 28 ≤ i + n → ∀ (σ : mS) (H : Heap) (locs : List Loc) (ls : Array Slot), (∀ j, j < i → σ 0 j = nI j) → (∀ k, k ≠ 0 → σ k = sgz k) → va_P D vwCl (mW 0 fdX0 cI cZ α σ) H → va_D A (mW 0 fdX0 cI cZ α σ) → va_S A s.heap H locs → lv_has ls 2 [(1, .int (nI i)), (0, .ref (α 99))] → W p l e R s m args below meth c H locs cells slots Q (F0 m 198 ls []) := by
  intro n
  obtain ⟨k1, k2, k3, k4, k5, k6, k7, k8, k9⟩ := kdX0
  induction n with
  | zero =>
    intro i h1 h2 σ H locs ls hs0 hs hP hD hS hl
    have e : i = 28 := by omega
    subst e
    refine lv_iload_n hx hb dX0_init_198 rfl (lv_at hl 0 rfl) ?_
    refine lv_bipush (v := nI 28) hx hb dX0_init_199 (by decide) ?_
    refine lv_icmp_ge (tgt := 217) hx hb dX0_init_201 (by decide) (fun _ => kk σ H locs ls ⟨hs0, hs⟩ hP hD hS) (fun q => zle (by decide) q)
  | succ n ih =>
    intro i h1 h2 σ H locs ls hs0 hs hP hD hS hl
    refine lv_iload_n hx hb dX0_init_198 rfl (lv_at hl 0 rfl) ?_
    refine lv_bipush (v := nI 28) hx hb dX0_init_199 (by decide) ?_
    refine lv_icmp_ge (tgt := 217) hx hb dX0_init_201 (by decide) (fun q => ?_) (fun q => ?_)
    · have e : i = 28 := by
        rcases Nat.lt_or_ge i 28 with z | z
        · exact zge z (by decide) q
        · omega
      subst e
      exact kk σ H locs ls ⟨hs0, hs⟩ hP hD hS
    · have hi : i < 28 := by
        rcases Nat.lt_or_ge i 28 with z | z
        · exact z
        · exact absurd (nI_le z (by omega)) q
      refine lv_aload_n hx hb dX0_init_204 rfl (lv_at hl 1 rfl) ?_
      refine va_get (C := RX0) (T := TX0) (N := 33) (ci := 0) (ref := RX0) (a := α 99) (v := .ref (α 0)) (fs := mflds fdX0 α σ) (ws := mW 0 fdX0 cI cZ α σ) hx hb hts k3 hown hK hP 0 rfl k1 0 (by decide) (hts _ q44) (fun x hx => hx) rfl dX0_init_205 ?_
      refine lv_iload_n hx hb dX0_init_208 rfl (lv_at hl 0 rfl) ?_
      refine lv_iload_n hx hb dX0_init_209 rfl (lv_at hl 0 rfl) ?_
      obtain ⟨q0, hq0, hw⟩ := mW_arr (ci := 0) (cI := cI) (cZ := cZ) (α := α) (σ := σ) (k := 0) (fd := fdX0) (by decide)
      unfold mcell at hw
      have hset := mW_seta (ci := 0) (cI := cI) (cZ := cZ) (α := α) (σ := σ) (i := i) (x := nI i) (k := 0) (fd := fdX0) (by decide) hq0
      rw [if_neg (by decide)] at hw hset
      refine va_iast hx hb hK hP hD hS (q0 + 1) 0 hw rfl (zi_in hi (by decide)) dX0_init_210 (fun H1 locs1 hP1 hD1 hS1 => ?_)
      rw [nI_clamp (by omega), hset] at hP1 hD1
      refine lv_iinc (v := nI (i + 1)) (lv' := [(1, .int (nI (i + 1))), (0, .ref (α 99))]) hx hb dX0_init_211 hl (k := 0) rfl (nI_1 i) (by decide) rfl (fun ls hl => ?_)
      refine lv_goto (tgt := 198) hx hb dX0_init_214 (by decide) ?_
      refine ih (i + 1) (by omega) (by omega) (mU σ 0 i (nI i)) H1 locs1 ls (fun j hj => ?_) (fun k hk => ?_) hP1 hD1 hS1 hl
      · by_cases z : j = i
        · rw [z, mU_s]
        · rw [mU_o (Or.inr z)]
          exact hs0 j (by omega)
      · rw [mU_ne hk]
        exact hs k hk
set_option maxHeartbeats 8000000 in
theorem X0k_init (l : Launch) (D : va_G) (cI cZ : ClassId) (h0 sz : Nat) : Met l yX0_init (ws_ yX0_init cX0_init 2 none) ({ frames := 1, cells := 24, slots := 490, locals := 12 }) (va_Pc [.ref h0] (fun U => U.heap.size = sz ∧ va_P D vwCl [(h0, .inr (0, fz fdX0))] U.heap ∧ va_K D vwCl [(cI, .int), (cZ, .boolean)] U ∧ va_D (fun _ => True) [(h0, .inr (0, fz fdX0))])) (va_Qv (fun u : (Nat → Nat) × mS => u.1 99 = h0 ∧ IX u.2) (fun u t => va_P D vwCl (mW 0 fdX0 cI cZ u.1 u.2) t.heap ∧ va_K D vwCl [(cI, .int), (cZ, .boolean)] t ∧ va_D (va_A [(h0, .inr (0, fz fdX0))] sz) (mW 0 fdX0 cI cZ u.1 u.2)) (va_A [(h0, .inr (0, fz fdX0))] sz)) 24 490 (va_A [(h0, .inr (0, fz fdX0))] sz) := by
  refine Met.ofW (cc := cX0_init) (maxL := 2) (ret := none) (by decide) rfl ?_
  intro p e s m args below meth c s₁ B hml hv
  obtain ⟨rfl, hsz, hP, hK, hD0⟩ := hv
  have hx := B.exec
  have hb := B.bytes
  have hr := B.returns
  have hts := atoms_spec (ws := ws_ yX0_init cX0_init 2 none) B.pre
  have hts : ∀ w ∈ lw_all, w.before _ s = true := fun w h => hts w (List.mem_cons_of_mem _ h)
  have hown : s.vm.findClass RX0 = some m.cls := findClass_of_methodNamed B.named
  have hlocks := B.notSynchronized
  have hin : meth.name = "<init>" := (name_of_methodNamed B.named B.method).1
  subst hsz
  have hD := hD0.self (sz := s.heap.size)
  generalize hAe : va_A [(h0, .inr (0, fz fdX0))] s.heap.size = A at hD ⊢
  have hA : ∀ q : Nat, s.heap.size ≤ q → A q := fun q h => by rw [← hAe]; exact Or.inr h
  have hS : va_S A s.heap s.heap [] := va_S.rf
  have hP : va_P D vwCl (iW 0 fdX0 cI cZ (fun _ => h0) 0) s.heap := by rw [iW_0]; exact hP
  have hD : va_D A (iW 0 fdX0 cI cZ (fun _ => h0) 0) := by rw [iW_0]; exact hD
  have hl := lv_entry ([.ref h0]) (n := 2) (Nat.le_of_ble_eq_true rfl)
  rw [lg_entry_eq]
  generalize (lg_sl ([.ref h0]) ++ List.replicate (2 - (lg_sl ([.ref h0])).length) Slot.unset).toArray = ls at hl ⊢
  have hl : lv_has ls 2 [(0, .ref h0)] := hl
  refine lv_aload_n hx hb dX0_init_0 rfl (lv_at hl 0 rfl) ?_
  refine W.objInit hx hb hown (hts _ q41) (hts _ q42) (hts _ q43) rfl (by rw [hml]; exact hl.1) rfl dX0_init_1 (Nat.le_of_ble_eq_true rfl) (Nat.le_of_ble_eq_true rfl) ?_
  refine W.eq (g2 := F0 m 4 ls []) rfl ?_
  have e_0 : (fun _ : Nat => h0) 99 = h0 := rfl
  refine ini_blk (α := (fun _ => h0)) kdX0 hx hb hts hown hin hK hA (by  exact lv_at hl 0 rfl) hP hD hS 0 0 rfl (by decide) (by decide) (by decide) (by decide) rfl (at0 := .int) (ft := .int) rfl (Or.inl ⟨rfl, rfl⟩) rfl q44 (n := 28) (len := 28) (c2 := 1) (n2 := 28) (by decide) (by decide) rfl rfl rfl (Nat.le_of_ble_eq_true rfl) (Nat.le_of_ble_eq_true rfl) dX0_init_4 dX0_init_5 dX0_init_7 dX0_init_9 (fun α1 H1 locs1 e9 hP hD hS => ?_)
  have e_1 : α1 99 = h0 := e9.trans e_0
  refine ini_blk (α := α1) kdX0 hx hb hts hown hin hK hA (by rw [e_1]; exact lv_at hl 0 rfl) hP hD hS 1 0 rfl (by decide) (by decide) (by decide) (by decide) rfl (at0 := .int) (ft := .int) rfl (Or.inl ⟨rfl, rfl⟩) rfl q45 (n := 28) (len := 28) (c2 := 2) (n2 := 56) (by decide) (by decide) rfl rfl rfl (Nat.le_of_ble_eq_true rfl) (Nat.le_of_ble_eq_true rfl) dX0_init_12 dX0_init_13 dX0_init_15 dX0_init_17 (fun α2 H2 locs2 e9 hP hD hS => ?_)
  have e_2 : α2 99 = h0 := e9.trans e_1
  refine ini_blk (α := α2) kdX0 hx hb hts hown hin hK hA (by rw [e_2]; exact lv_at hl 0 rfl) hP hD hS 2 0 rfl (by decide) (by decide) (by decide) (by decide) rfl (at0 := .int) (ft := .int) rfl (Or.inl ⟨rfl, rfl⟩) rfl q46 (n := 28) (len := 28) (c2 := 3) (n2 := 84) (by decide) (by decide) rfl rfl rfl (Nat.le_of_ble_eq_true rfl) (Nat.le_of_ble_eq_true rfl) dX0_init_20 dX0_init_21 dX0_init_23 dX0_init_25 (fun α3 H3 locs3 e9 hP hD hS => ?_)
  have e_3 : α3 99 = h0 := e9.trans e_2
  refine ini_blk (α := α3) kdX0 hx hb hts hown hin hK hA (by rw [e_3]; exact lv_at hl 0 rfl) hP hD hS 3 0 rfl (by decide) (by decide) (by decide) (by decide) rfl (at0 := .int) (ft := .int) rfl (Or.inl ⟨rfl, rfl⟩) rfl q47 (n := 28) (len := 28) (c2 := 4) (n2 := 112) (by decide) (by decide) rfl rfl rfl (Nat.le_of_ble_eq_true rfl) (Nat.le_of_ble_eq_true rfl) dX0_init_28 dX0_init_29 dX0_init_31 dX0_init_33 (fun α4 H4 locs4 e9 hP hD hS => ?_)
  have e_4 : α4 99 = h0 := e9.trans e_3
  refine ini_blk (α := α4) kdX0 hx hb hts hown hin hK hA (by rw [e_4]; exact lv_at hl 0 rfl) hP hD hS 4 0 rfl (by decide) (by decide) (by decide) (by decide) rfl (at0 := .boolean) (ft := .boolean) rfl (Or.inr ⟨rfl, rfl⟩) rfl q48 (n := 28) (len := 28) (c2 := 5) (n2 := 140) (by decide) (by decide) rfl rfl rfl (Nat.le_of_ble_eq_true rfl) (Nat.le_of_ble_eq_true rfl) dX0_init_36 dX0_init_37 dX0_init_39 dX0_init_41 (fun α5 H5 locs5 e9 hP hD hS => ?_)
  have e_5 : α5 99 = h0 := e9.trans e_4
  refine ini_blk (α := α5) kdX0 hx hb hts hown hin hK hA (by rw [e_5]; exact lv_at hl 0 rfl) hP hD hS 5 0 rfl (by decide) (by decide) (by decide) (by decide) rfl (at0 := .int) (ft := .int) rfl (Or.inl ⟨rfl, rfl⟩) rfl q49 (n := 32) (len := 32) (c2 := 6) (n2 := 172) (by decide) (by decide) rfl rfl rfl (Nat.le_of_ble_eq_true rfl) (Nat.le_of_ble_eq_true rfl) dX0_init_44 dX0_init_45 dX0_init_47 dX0_init_49 (fun α6 H6 locs6 e9 hP hD hS => ?_)
  have e_6 : α6 99 = h0 := e9.trans e_5
  refine ini_blk (α := α6) kdX0 hx hb hts hown hin hK hA (by rw [e_6]; exact lv_at hl 0 rfl) hP hD hS 9 3 rfl (by decide) (by decide) (by decide) (by decide) rfl (at0 := .int) (ft := .int) rfl (Or.inl ⟨rfl, rfl⟩) rfl q53 (n := 20) (len := 20) (c2 := 7) (n2 := 192) (by decide) (by decide) rfl rfl rfl (Nat.le_of_ble_eq_true rfl) (Nat.le_of_ble_eq_true rfl) dX0_init_52 dX0_init_53 dX0_init_55 dX0_init_57 (fun α7 H7 locs7 e9 hP hD hS => ?_)
  have e_7 : α7 99 = h0 := e9.trans e_6
  refine ini_blk (α := α7) kdX0 hx hb hts hown hin hK hA (by rw [e_7]; exact lv_at hl 0 rfl) hP hD hS 10 0 rfl (by decide) (by decide) (by decide) (by decide) rfl (at0 := .int) (ft := .int) rfl (Or.inl ⟨rfl, rfl⟩) rfl q54 (n := 20) (len := 20) (c2 := 8) (n2 := 212) (by decide) (by decide) rfl rfl rfl (Nat.le_of_ble_eq_true rfl) (Nat.le_of_ble_eq_true rfl) dX0_init_60 dX0_init_61 dX0_init_63 dX0_init_65 (fun α8 H8 locs8 e9 hP hD hS => ?_)
  have e_8 : α8 99 = h0 := e9.trans e_7
  refine ini_blk (α := α8) kdX0 hx hb hts hown hin hK hA (by rw [e_8]; exact lv_at hl 0 rfl) hP hD hS 11 0 rfl (by decide) (by decide) (by decide) (by decide) rfl (at0 := .int) (ft := .int) rfl (Or.inl ⟨rfl, rfl⟩) rfl q55 (n := 20) (len := 20) (c2 := 9) (n2 := 232) (by decide) (by decide) rfl rfl rfl (Nat.le_of_ble_eq_true rfl) (Nat.le_of_ble_eq_true rfl) dX0_init_68 dX0_init_69 dX0_init_71 dX0_init_73 (fun α9 H9 locs9 e9 hP hD hS => ?_)
  have e_9 : α9 99 = h0 := e9.trans e_8
  refine ini_blk (α := α9) kdX0 hx hb hts hown hin hK hA (by rw [e_9]; exact lv_at hl 0 rfl) hP hD hS 13 1 rfl (by decide) (by decide) (by decide) (by decide) rfl (at0 := .int) (ft := .int) rfl (Or.inl ⟨rfl, rfl⟩) rfl q57 (n := 20) (len := 20) (c2 := 10) (n2 := 252) (by decide) (by decide) rfl rfl rfl (Nat.le_of_ble_eq_true rfl) (Nat.le_of_ble_eq_true rfl) dX0_init_76 dX0_init_77 dX0_init_79 dX0_init_81 (fun α10 H10 locs10 e9 hP hD hS => ?_)
  have e_10 : α10 99 = h0 := e9.trans e_9
  refine ini_blk (α := α10) kdX0 hx hb hts hown hin hK hA (by rw [e_10]; exact lv_at hl 0 rfl) hP hD hS 14 0 rfl (by decide) (by decide) (by decide) (by decide) rfl (at0 := .int) (ft := .int) rfl (Or.inl ⟨rfl, rfl⟩) rfl q58 (n := 20) (len := 20) (c2 := 11) (n2 := 272) (by decide) (by decide) rfl rfl rfl (Nat.le_of_ble_eq_true rfl) (Nat.le_of_ble_eq_true rfl) dX0_init_84 dX0_init_85 dX0_init_87 dX0_init_89 (fun α11 H11 locs11 e9 hP hD hS => ?_)
  have e_11 : α11 99 = h0 := e9.trans e_10
  refine ini_blk (α := α11) kdX0 hx hb hts hown hin hK hA (by rw [e_11]; exact lv_at hl 0 rfl) hP hD hS 15 0 rfl (by decide) (by decide) (by decide) (by decide) rfl (at0 := .int) (ft := .int) rfl (Or.inl ⟨rfl, rfl⟩) rfl q59 (n := 20) (len := 20) (c2 := 12) (n2 := 292) (by decide) (by decide) rfl rfl rfl (Nat.le_of_ble_eq_true rfl) (Nat.le_of_ble_eq_true rfl) dX0_init_92 dX0_init_93 dX0_init_95 dX0_init_97 (fun α12 H12 locs12 e9 hP hD hS => ?_)
  have e_12 : α12 99 = h0 := e9.trans e_11
  refine ini_blk (α := α12) kdX0 hx hb hts hown hin hK hA (by rw [e_12]; exact lv_at hl 0 rfl) hP hD hS 18 2 rfl (by decide) (by decide) (by decide) (by decide) rfl (at0 := .int) (ft := .int) rfl (Or.inl ⟨rfl, rfl⟩) rfl q62 (n := 12) (len := 12) (c2 := 13) (n2 := 304) (by decide) (by decide) rfl rfl rfl (Nat.le_of_ble_eq_true rfl) (Nat.le_of_ble_eq_true rfl) dX0_init_100 dX0_init_101 dX0_init_103 dX0_init_105 (fun α13 H13 locs13 e9 hP hD hS => ?_)
  have e_13 : α13 99 = h0 := e9.trans e_12
  refine ini_blk (α := α13) kdX0 hx hb hts hown hin hK hA (by rw [e_13]; exact lv_at hl 0 rfl) hP hD hS 19 0 rfl (by decide) (by decide) (by decide) (by decide) rfl (at0 := .int) (ft := .int) rfl (Or.inl ⟨rfl, rfl⟩) rfl q63 (n := 12) (len := 12) (c2 := 14) (n2 := 316) (by decide) (by decide) rfl rfl rfl (Nat.le_of_ble_eq_true rfl) (Nat.le_of_ble_eq_true rfl) dX0_init_108 dX0_init_109 dX0_init_111 dX0_init_113 (fun α14 H14 locs14 e9 hP hD hS => ?_)
  have e_14 : α14 99 = h0 := e9.trans e_13
  refine ini_blk (α := α14) kdX0 hx hb hts hown hin hK hA (by rw [e_14]; exact lv_at hl 0 rfl) hP hD hS 20 0 rfl (by decide) (by decide) (by decide) (by decide) rfl (at0 := .int) (ft := .int) rfl (Or.inl ⟨rfl, rfl⟩) rfl q64 (n := 12) (len := 12) (c2 := 15) (n2 := 328) (by decide) (by decide) rfl rfl rfl (Nat.le_of_ble_eq_true rfl) (Nat.le_of_ble_eq_true rfl) dX0_init_116 dX0_init_117 dX0_init_119 dX0_init_121 (fun α15 H15 locs15 e9 hP hD hS => ?_)
  have e_15 : α15 99 = h0 := e9.trans e_14
  refine ini_blk (α := α15) kdX0 hx hb hts hown hin hK hA (by rw [e_15]; exact lv_at hl 0 rfl) hP hD hS 22 1 rfl (by decide) (by decide) (by decide) (by decide) rfl (at0 := .int) (ft := .int) rfl (Or.inl ⟨rfl, rfl⟩) rfl q66 (n := 16) (len := 16) (c2 := 16) (n2 := 344) (by decide) (by decide) rfl rfl rfl (Nat.le_of_ble_eq_true rfl) (Nat.le_of_ble_eq_true rfl) dX0_init_124 dX0_init_125 dX0_init_127 dX0_init_129 (fun α16 H16 locs16 e9 hP hD hS => ?_)
  have e_16 : α16 99 = h0 := e9.trans e_15
  refine ini_blk (α := α16) kdX0 hx hb hts hown hin hK hA (by rw [e_16]; exact lv_at hl 0 rfl) hP hD hS 23 0 rfl (by decide) (by decide) (by decide) (by decide) rfl (at0 := .int) (ft := .int) rfl (Or.inl ⟨rfl, rfl⟩) rfl q67 (n := 16) (len := 16) (c2 := 17) (n2 := 360) (by decide) (by decide) rfl rfl rfl (Nat.le_of_ble_eq_true rfl) (Nat.le_of_ble_eq_true rfl) dX0_init_132 dX0_init_133 dX0_init_135 dX0_init_137 (fun α17 H17 locs17 e9 hP hD hS => ?_)
  have e_17 : α17 99 = h0 := e9.trans e_16
  refine ini_blk (α := α17) kdX0 hx hb hts hown hin hK hA (by rw [e_17]; exact lv_at hl 0 rfl) hP hD hS 24 0 rfl (by decide) (by decide) (by decide) (by decide) rfl (at0 := .int) (ft := .int) rfl (Or.inl ⟨rfl, rfl⟩) rfl q68 (n := 16) (len := 16) (c2 := 18) (n2 := 376) (by decide) (by decide) rfl rfl rfl (Nat.le_of_ble_eq_true rfl) (Nat.le_of_ble_eq_true rfl) dX0_init_140 dX0_init_141 dX0_init_143 dX0_init_145 (fun α18 H18 locs18 e9 hP hD hS => ?_)
  have e_18 : α18 99 = h0 := e9.trans e_17
  refine ini_blk (α := α18) kdX0 hx hb hts hown hin hK hA (by rw [e_18]; exact lv_at hl 0 rfl) hP hD hS 25 0 rfl (by decide) (by decide) (by decide) (by decide) rfl (at0 := .boolean) (ft := .boolean) rfl (Or.inr ⟨rfl, rfl⟩) rfl q69 (n := 16) (len := 16) (c2 := 19) (n2 := 392) (by decide) (by decide) rfl rfl rfl (Nat.le_of_ble_eq_true rfl) (Nat.le_of_ble_eq_true rfl) dX0_init_148 dX0_init_149 dX0_init_151 dX0_init_153 (fun α19 H19 locs19 e9 hP hD hS => ?_)
  have e_19 : α19 99 = h0 := e9.trans e_18
  refine ini_blk (α := α19) kdX0 hx hb hts hown hin hK hA (by rw [e_19]; exact lv_at hl 0 rfl) hP hD hS 26 0 rfl (by decide) (by decide) (by decide) (by decide) rfl (at0 := .int) (ft := .int) rfl (Or.inl ⟨rfl, rfl⟩) rfl q70 (n := 64) (len := 64) (c2 := 20) (n2 := 456) (by decide) (by decide) rfl rfl rfl (Nat.le_of_ble_eq_true rfl) (Nat.le_of_ble_eq_true rfl) dX0_init_156 dX0_init_157 dX0_init_159 dX0_init_161 (fun α20 H20 locs20 e9 hP hD hS => ?_)
  have e_20 : α20 99 = h0 := e9.trans e_19
  refine ini_blk (α := α20) kdX0 hx hb hts hown hin hK hA (by rw [e_20]; exact lv_at hl 0 rfl) hP hD hS 28 1 rfl (by decide) (by decide) (by decide) (by decide) rfl (at0 := .int) (ft := .int) rfl (Or.inl ⟨rfl, rfl⟩) rfl q72 (n := 8) (len := 8) (c2 := 21) (n2 := 464) (by decide) (by decide) rfl rfl rfl (Nat.le_of_ble_eq_true rfl) (Nat.le_of_ble_eq_true rfl) dX0_init_164 dX0_init_165 dX0_init_167 dX0_init_169 (fun α21 H21 locs21 e9 hP hD hS => ?_)
  have e_21 : α21 99 = h0 := e9.trans e_20
  refine ini_blk (α := α21) kdX0 hx hb hts hown hin hK hA (by rw [e_21]; exact lv_at hl 0 rfl) hP hD hS 30 1 rfl (by decide) (by decide) (by decide) (by decide) rfl (at0 := .int) (ft := .int) rfl (Or.inl ⟨rfl, rfl⟩) rfl q74 (n := 8) (len := 8) (c2 := 22) (n2 := 472) (by decide) (by decide) rfl rfl rfl (Nat.le_of_ble_eq_true rfl) (Nat.le_of_ble_eq_true rfl) dX0_init_172 dX0_init_173 dX0_init_175 dX0_init_177 (fun α22 H22 locs22 e9 hP hD hS => ?_)
  have e_22 : α22 99 = h0 := e9.trans e_21
  refine ini_blk (α := α22) kdX0 hx hb hts hown hin hK hA (by rw [e_22]; exact lv_at hl 0 rfl) hP hD hS 31 0 rfl (by decide) (by decide) (by decide) (by decide) rfl (at0 := .int) (ft := .int) rfl (Or.inl ⟨rfl, rfl⟩) rfl q75 (n := 9) (len := 9) (c2 := 23) (n2 := 481) (by decide) (by decide) rfl rfl rfl (Nat.le_of_ble_eq_true rfl) (Nat.le_of_ble_eq_true rfl) dX0_init_180 dX0_init_181 dX0_init_183 dX0_init_185 (fun α23 H23 locs23 e9 hP hD hS => ?_)
  have e_23 : α23 99 = h0 := e9.trans e_22
  refine ini_blk (α := α23) kdX0 hx hb hts hown hin hK hA (by rw [e_23]; exact lv_at hl 0 rfl) hP hD hS 32 0 rfl (by decide) (by decide) (by decide) (by decide) rfl (at0 := .int) (ft := .int) rfl (Or.inl ⟨rfl, rfl⟩) rfl q76 (n := 9) (len := 9) (c2 := 24) (n2 := 490) (by decide) (by decide) rfl rfl rfl (Nat.le_of_ble_eq_true rfl) (Nat.le_of_ble_eq_true rfl) dX0_init_188 dX0_init_189 dX0_init_191 dX0_init_193 (fun α24 H24 locs24 e9 hP hD hS => ?_)
  have e_24 : α24 99 = h0 := e9.trans e_23
  have hP : va_P D vwCl (mW 0 fdX0 cI cZ α24 sgz) H24 := by rw [← iW_end]; exact hP
  have hD : va_D A (mW 0 fdX0 cI cZ α24 sgz) := by rw [← iW_end]; exact hD
  refine lv_iconst (v := nI 0) hx hb dX0_init_196 (by decide) ?_
  refine lv_istore_n (lv' := [(1, .int (nI 0)), (0, .ref h0)]) hx hb dX0_init_197 rfl hl (by decide) rfl (fun ls hl => ?_)
  refine X0_loop (α := α24) hx hb hts hown hK (fun σ H locs ls hI hP hD hS => ?_) 28 0 (by omega) (by omega) sgz H24 locs24 ls (fun j hj => absurd hj (Nat.not_lt_zero j)) (fun _ _ => rfl) hP hD hS (by rw [e_24]; exact hl)
  exact W.vret hx hb hr (fun t ht hW => ⟨⟨(α24, σ), rfl, ⟨e_24, hI⟩, by rw [ht]; exact hP, va_K.moved hW.alike hK, hD⟩, hS.F ht⟩) hS.2.2 dX0_init_217 hlocks
set_option maxHeartbeats 8000000 in
theorem X1k_init (l : Launch) (D : va_G) (cI cZ : ClassId) (h0 sz : Nat) : Met l yX1_init (ws_ yX1_init cX1_init 1 none) ({ frames := 1, cells := 20, slots := 320, locals := 12 }) (va_Pc [.ref h0] (fun U => U.heap.size = sz ∧ va_P D vwCl [(h0, .inr (1, fz fdX1))] U.heap ∧ va_K D vwCl [(cI, .int), (cZ, .boolean)] U ∧ va_D (fun _ => True) [(h0, .inr (1, fz fdX1))])) (va_Qv (fun u : (Nat → Nat) × mS => u.1 99 = h0 ∧ IM u.2) (fun u t => va_P D vwCl (mW 1 fdX1 cI cZ u.1 u.2) t.heap ∧ va_K D vwCl [(cI, .int), (cZ, .boolean)] t ∧ va_D (va_A [(h0, .inr (1, fz fdX1))] sz) (mW 1 fdX1 cI cZ u.1 u.2)) (va_A [(h0, .inr (1, fz fdX1))] sz)) 20 320 (va_A [(h0, .inr (1, fz fdX1))] sz) := by
  refine Met.ofW (cc := cX1_init) (maxL := 1) (ret := none) (by decide) rfl ?_
  intro p e s m args below meth c s₁ B hml hv
  obtain ⟨rfl, hsz, hP, hK, hD0⟩ := hv
  have hx := B.exec
  have hb := B.bytes
  have hr := B.returns
  have hts := atoms_spec (ws := ws_ yX1_init cX1_init 1 none) B.pre
  have hts : ∀ w ∈ lw_all, w.before _ s = true := fun w h => hts w (List.mem_cons_of_mem _ h)
  have hown : s.vm.findClass RX1 = some m.cls := findClass_of_methodNamed B.named
  have hlocks := B.notSynchronized
  have hin : meth.name = "<init>" := (name_of_methodNamed B.named B.method).1
  subst hsz
  have hD := hD0.self (sz := s.heap.size)
  generalize hAe : va_A [(h0, .inr (1, fz fdX1))] s.heap.size = A at hD ⊢
  have hA : ∀ q : Nat, s.heap.size ≤ q → A q := fun q h => by rw [← hAe]; exact Or.inr h
  have hS : va_S A s.heap s.heap [] := va_S.rf
  have hP : va_P D vwCl (iW 1 fdX1 cI cZ (fun _ => h0) 0) s.heap := by rw [iW_0]; exact hP
  have hD : va_D A (iW 1 fdX1 cI cZ (fun _ => h0) 0) := by rw [iW_0]; exact hD
  have hl := lv_entry ([.ref h0]) (n := 1) (Nat.le_of_ble_eq_true rfl)
  rw [lg_entry_eq]
  generalize (lg_sl ([.ref h0]) ++ List.replicate (1 - (lg_sl ([.ref h0])).length) Slot.unset).toArray = ls at hl ⊢
  have hl : lv_has ls 1 [(0, .ref h0)] := hl
  refine lv_aload_n hx hb dX1_init_0 rfl (lv_at hl 0 rfl) ?_
  refine W.objInit hx hb hown (hts _ q298) (hts _ q42) (hts _ q43) rfl (by rw [hml]; exact hl.1) rfl dX1_init_1 (Nat.le_of_ble_eq_true rfl) (Nat.le_of_ble_eq_true rfl) ?_
  refine W.eq (g2 := F0 m 4 ls []) rfl ?_
  have e_0 : (fun _ : Nat => h0) 99 = h0 := rfl
  refine ini_blk (α := (fun _ => h0)) kdX1 hx hb hts hown hin hK hA (by  exact lv_at hl 0 rfl) hP hD hS 0 0 rfl (by decide) (by decide) (by decide) (by decide) rfl (at0 := .int) (ft := .int) rfl (Or.inl ⟨rfl, rfl⟩) rfl q299 (n := 12) (len := 12) (c2 := 1) (n2 := 12) (by decide) (by decide) rfl rfl rfl (Nat.le_of_ble_eq_true rfl) (Nat.le_of_ble_eq_true rfl) dX1_init_4 dX1_init_5 dX1_init_7 dX1_init_9 (fun α1 H1 locs1 e9 hP hD hS => ?_)
  have e_1 : α1 99 = h0 := e9.trans e_0
  refine ini_blk (α := α1) kdX1 hx hb hts hown hin hK hA (by rw [e_1]; exact lv_at hl 0 rfl) hP hD hS 1 0 rfl (by decide) (by decide) (by decide) (by decide) rfl (at0 := .int) (ft := .int) rfl (Or.inl ⟨rfl, rfl⟩) rfl q300 (n := 12) (len := 12) (c2 := 2) (n2 := 24) (by decide) (by decide) rfl rfl rfl (Nat.le_of_ble_eq_true rfl) (Nat.le_of_ble_eq_true rfl) dX1_init_12 dX1_init_13 dX1_init_15 dX1_init_17 (fun α2 H2 locs2 e9 hP hD hS => ?_)
  have e_2 : α2 99 = h0 := e9.trans e_1
  refine ini_blk (α := α2) kdX1 hx hb hts hown hin hK hA (by rw [e_2]; exact lv_at hl 0 rfl) hP hD hS 3 1 rfl (by decide) (by decide) (by decide) (by decide) rfl (at0 := .int) (ft := .int) rfl (Or.inl ⟨rfl, rfl⟩) rfl q302 (n := 20) (len := 20) (c2 := 3) (n2 := 44) (by decide) (by decide) rfl rfl rfl (Nat.le_of_ble_eq_true rfl) (Nat.le_of_ble_eq_true rfl) dX1_init_20 dX1_init_21 dX1_init_23 dX1_init_25 (fun α3 H3 locs3 e9 hP hD hS => ?_)
  have e_3 : α3 99 = h0 := e9.trans e_2
  refine ini_blk (α := α3) kdX1 hx hb hts hown hin hK hA (by rw [e_3]; exact lv_at hl 0 rfl) hP hD hS 4 0 rfl (by decide) (by decide) (by decide) (by decide) rfl (at0 := .int) (ft := .int) rfl (Or.inl ⟨rfl, rfl⟩) rfl q303 (n := 20) (len := 20) (c2 := 4) (n2 := 64) (by decide) (by decide) rfl rfl rfl (Nat.le_of_ble_eq_true rfl) (Nat.le_of_ble_eq_true rfl) dX1_init_28 dX1_init_29 dX1_init_31 dX1_init_33 (fun α4 H4 locs4 e9 hP hD hS => ?_)
  have e_4 : α4 99 = h0 := e9.trans e_3
  refine ini_blk (α := α4) kdX1 hx hb hts hown hin hK hA (by rw [e_4]; exact lv_at hl 0 rfl) hP hD hS 5 0 rfl (by decide) (by decide) (by decide) (by decide) rfl (at0 := .int) (ft := .int) rfl (Or.inl ⟨rfl, rfl⟩) rfl q304 (n := 20) (len := 20) (c2 := 5) (n2 := 84) (by decide) (by decide) rfl rfl rfl (Nat.le_of_ble_eq_true rfl) (Nat.le_of_ble_eq_true rfl) dX1_init_36 dX1_init_37 dX1_init_39 dX1_init_41 (fun α5 H5 locs5 e9 hP hD hS => ?_)
  have e_5 : α5 99 = h0 := e9.trans e_4
  refine ini_blk (α := α5) kdX1 hx hb hts hown hin hK hA (by rw [e_5]; exact lv_at hl 0 rfl) hP hD hS 7 1 rfl (by decide) (by decide) (by decide) (by decide) rfl (at0 := .int) (ft := .int) rfl (Or.inl ⟨rfl, rfl⟩) rfl q306 (n := 20) (len := 20) (c2 := 6) (n2 := 104) (by decide) (by decide) rfl rfl rfl (Nat.le_of_ble_eq_true rfl) (Nat.le_of_ble_eq_true rfl) dX1_init_44 dX1_init_45 dX1_init_47 dX1_init_49 (fun α6 H6 locs6 e9 hP hD hS => ?_)
  have e_6 : α6 99 = h0 := e9.trans e_5
  refine ini_blk (α := α6) kdX1 hx hb hts hown hin hK hA (by rw [e_6]; exact lv_at hl 0 rfl) hP hD hS 8 0 rfl (by decide) (by decide) (by decide) (by decide) rfl (at0 := .int) (ft := .int) rfl (Or.inl ⟨rfl, rfl⟩) rfl q307 (n := 20) (len := 20) (c2 := 7) (n2 := 124) (by decide) (by decide) rfl rfl rfl (Nat.le_of_ble_eq_true rfl) (Nat.le_of_ble_eq_true rfl) dX1_init_52 dX1_init_53 dX1_init_55 dX1_init_57 (fun α7 H7 locs7 e9 hP hD hS => ?_)
  have e_7 : α7 99 = h0 := e9.trans e_6
  refine ini_blk (α := α7) kdX1 hx hb hts hown hin hK hA (by rw [e_7]; exact lv_at hl 0 rfl) hP hD hS 9 0 rfl (by decide) (by decide) (by decide) (by decide) rfl (at0 := .int) (ft := .int) rfl (Or.inl ⟨rfl, rfl⟩) rfl q308 (n := 20) (len := 20) (c2 := 8) (n2 := 144) (by decide) (by decide) rfl rfl rfl (Nat.le_of_ble_eq_true rfl) (Nat.le_of_ble_eq_true rfl) dX1_init_60 dX1_init_61 dX1_init_63 dX1_init_65 (fun α8 H8 locs8 e9 hP hD hS => ?_)
  have e_8 : α8 99 = h0 := e9.trans e_7
  refine ini_blk (α := α8) kdX1 hx hb hts hown hin hK hA (by rw [e_8]; exact lv_at hl 0 rfl) hP hD hS 10 0 rfl (by decide) (by decide) (by decide) (by decide) rfl (at0 := .boolean) (ft := .boolean) rfl (Or.inr ⟨rfl, rfl⟩) rfl q309 (n := 8) (len := 8) (c2 := 9) (n2 := 152) (by decide) (by decide) rfl rfl rfl (Nat.le_of_ble_eq_true rfl) (Nat.le_of_ble_eq_true rfl) dX1_init_68 dX1_init_69 dX1_init_71 dX1_init_73 (fun α9 H9 locs9 e9 hP hD hS => ?_)
  have e_9 : α9 99 = h0 := e9.trans e_8
  refine ini_blk (α := α9) kdX1 hx hb hts hown hin hK hA (by rw [e_9]; exact lv_at hl 0 rfl) hP hD hS 12 1 rfl (by decide) (by decide) (by decide) (by decide) rfl (at0 := .int) (ft := .int) rfl (Or.inl ⟨rfl, rfl⟩) rfl q311 (n := 12) (len := 12) (c2 := 10) (n2 := 164) (by decide) (by decide) rfl rfl rfl (Nat.le_of_ble_eq_true rfl) (Nat.le_of_ble_eq_true rfl) dX1_init_76 dX1_init_77 dX1_init_79 dX1_init_81 (fun α10 H10 locs10 e9 hP hD hS => ?_)
  have e_10 : α10 99 = h0 := e9.trans e_9
  refine ini_blk (α := α10) kdX1 hx hb hts hown hin hK hA (by rw [e_10]; exact lv_at hl 0 rfl) hP hD hS 13 0 rfl (by decide) (by decide) (by decide) (by decide) rfl (at0 := .int) (ft := .int) rfl (Or.inl ⟨rfl, rfl⟩) rfl q312 (n := 12) (len := 12) (c2 := 11) (n2 := 176) (by decide) (by decide) rfl rfl rfl (Nat.le_of_ble_eq_true rfl) (Nat.le_of_ble_eq_true rfl) dX1_init_84 dX1_init_85 dX1_init_87 dX1_init_89 (fun α11 H11 locs11 e9 hP hD hS => ?_)
  have e_11 : α11 99 = h0 := e9.trans e_10
  refine ini_blk (α := α11) kdX1 hx hb hts hown hin hK hA (by rw [e_11]; exact lv_at hl 0 rfl) hP hD hS 14 0 rfl (by decide) (by decide) (by decide) (by decide) rfl (at0 := .int) (ft := .int) rfl (Or.inl ⟨rfl, rfl⟩) rfl q313 (n := 12) (len := 12) (c2 := 12) (n2 := 188) (by decide) (by decide) rfl rfl rfl (Nat.le_of_ble_eq_true rfl) (Nat.le_of_ble_eq_true rfl) dX1_init_92 dX1_init_93 dX1_init_95 dX1_init_97 (fun α12 H12 locs12 e9 hP hD hS => ?_)
  have e_12 : α12 99 = h0 := e9.trans e_11
  refine ini_blk (α := α12) kdX1 hx hb hts hown hin hK hA (by rw [e_12]; exact lv_at hl 0 rfl) hP hD hS 16 1 rfl (by decide) (by decide) (by decide) (by decide) rfl (at0 := .int) (ft := .int) rfl (Or.inl ⟨rfl, rfl⟩) rfl q315 (n := 16) (len := 16) (c2 := 13) (n2 := 204) (by decide) (by decide) rfl rfl rfl (Nat.le_of_ble_eq_true rfl) (Nat.le_of_ble_eq_true rfl) dX1_init_100 dX1_init_101 dX1_init_103 dX1_init_105 (fun α13 H13 locs13 e9 hP hD hS => ?_)
  have e_13 : α13 99 = h0 := e9.trans e_12
  refine ini_blk (α := α13) kdX1 hx hb hts hown hin hK hA (by rw [e_13]; exact lv_at hl 0 rfl) hP hD hS 17 0 rfl (by decide) (by decide) (by decide) (by decide) rfl (at0 := .int) (ft := .int) rfl (Or.inl ⟨rfl, rfl⟩) rfl q316 (n := 16) (len := 16) (c2 := 14) (n2 := 220) (by decide) (by decide) rfl rfl rfl (Nat.le_of_ble_eq_true rfl) (Nat.le_of_ble_eq_true rfl) dX1_init_108 dX1_init_109 dX1_init_111 dX1_init_113 (fun α14 H14 locs14 e9 hP hD hS => ?_)
  have e_14 : α14 99 = h0 := e9.trans e_13
  refine ini_blk (α := α14) kdX1 hx hb hts hown hin hK hA (by rw [e_14]; exact lv_at hl 0 rfl) hP hD hS 18 0 rfl (by decide) (by decide) (by decide) (by decide) rfl (at0 := .int) (ft := .int) rfl (Or.inl ⟨rfl, rfl⟩) rfl q317 (n := 16) (len := 16) (c2 := 15) (n2 := 236) (by decide) (by decide) rfl rfl rfl (Nat.le_of_ble_eq_true rfl) (Nat.le_of_ble_eq_true rfl) dX1_init_116 dX1_init_117 dX1_init_119 dX1_init_121 (fun α15 H15 locs15 e9 hP hD hS => ?_)
  have e_15 : α15 99 = h0 := e9.trans e_14
  refine ini_blk (α := α15) kdX1 hx hb hts hown hin hK hA (by rw [e_15]; exact lv_at hl 0 rfl) hP hD hS 19 0 rfl (by decide) (by decide) (by decide) (by decide) rfl (at0 := .boolean) (ft := .boolean) rfl (Or.inr ⟨rfl, rfl⟩) rfl q318 (n := 16) (len := 16) (c2 := 16) (n2 := 252) (by decide) (by decide) rfl rfl rfl (Nat.le_of_ble_eq_true rfl) (Nat.le_of_ble_eq_true rfl) dX1_init_124 dX1_init_125 dX1_init_127 dX1_init_129 (fun α16 H16 locs16 e9 hP hD hS => ?_)
  have e_16 : α16 99 = h0 := e9.trans e_15
  refine ini_blk (α := α16) kdX1 hx hb hts hown hin hK hA (by rw [e_16]; exact lv_at hl 0 rfl) hP hD hS 21 1 rfl (by decide) (by decide) (by decide) (by decide) rfl (at0 := .int) (ft := .int) rfl (Or.inl ⟨rfl, rfl⟩) rfl q320 (n := 12) (len := 12) (c2 := 17) (n2 := 264) (by decide) (by decide) rfl rfl rfl (Nat.le_of_ble_eq_true rfl) (Nat.le_of_ble_eq_true rfl) dX1_init_132 dX1_init_133 dX1_init_135 dX1_init_137 (fun α17 H17 locs17 e9 hP hD hS => ?_)
  have e_17 : α17 99 = h0 := e9.trans e_16
  refine ini_blk (α := α17) kdX1 hx hb hts hown hin hK hA (by rw [e_17]; exact lv_at hl 0 rfl) hP hD hS 22 0 rfl (by decide) (by decide) (by decide) (by decide) rfl (at0 := .int) (ft := .int) rfl (Or.inl ⟨rfl, rfl⟩) rfl q321 (n := 16) (len := 16) (c2 := 18) (n2 := 280) (by decide) (by decide) rfl rfl rfl (Nat.le_of_ble_eq_true rfl) (Nat.le_of_ble_eq_true rfl) dX1_init_140 dX1_init_141 dX1_init_143 dX1_init_145 (fun α18 H18 locs18 e9 hP hD hS => ?_)
  have e_18 : α18 99 = h0 := e9.trans e_17
  refine ini_blk (α := α18) kdX1 hx hb hts hown hin hK hA (by rw [e_18]; exact lv_at hl 0 rfl) hP hD hS 23 0 rfl (by decide) (by decide) (by decide) (by decide) rfl (at0 := .int) (ft := .int) rfl (Or.inl ⟨rfl, rfl⟩) rfl q322 (n := 32) (len := 32) (c2 := 19) (n2 := 312) (by decide) (by decide) rfl rfl rfl (Nat.le_of_ble_eq_true rfl) (Nat.le_of_ble_eq_true rfl) dX1_init_148 dX1_init_149 dX1_init_151 dX1_init_153 (fun α19 H19 locs19 e9 hP hD hS => ?_)
  have e_19 : α19 99 = h0 := e9.trans e_18
  refine ini_blk (α := α19) kdX1 hx hb hts hown hin hK hA (by rw [e_19]; exact lv_at hl 0 rfl) hP hD hS 24 0 rfl (by decide) (by decide) (by decide) (by decide) rfl (at0 := .int) (ft := .int) rfl (Or.inl ⟨rfl, rfl⟩) rfl q323 (n := 8) (len := 8) (c2 := 20) (n2 := 320) (by decide) (by decide) rfl rfl rfl (Nat.le_of_ble_eq_true rfl) (Nat.le_of_ble_eq_true rfl) dX1_init_156 dX1_init_157 dX1_init_159 dX1_init_161 (fun α20 H20 locs20 e9 hP hD hS => ?_)
  have e_20 : α20 99 = h0 := e9.trans e_19
  have hP : va_P D vwCl (mW 1 fdX1 cI cZ α20 sgz) H20 := by rw [← iW_end]; exact hP
  have hD : va_D A (mW 1 fdX1 cI cZ α20 sgz) := by rw [← iW_end]; exact hD
  exact W.vret hx hb hr (fun t ht hW => ⟨⟨(α20, sgz), rfl, ⟨e_20, rfl⟩, by rw [ht]; exact hP, va_K.moved hW.alike hK, hD⟩, hS.F ht⟩) hS.2.2 dX1_init_164 hlocks
end
section
/-! the law: the start's value, two worlds side by side, the law's blocks of instructions -/
set_option maxRecDepth 100000
def A0 : AS := ((fun _ _ => False, fun _ _ => False, [], []), fun _ => false, [], [])
theorem A0_AW : AW A0 := by
  refine ⟨⟨fun v s h => False.elim h, fun v s h => False.elim h, fun p h => absurd h List.not_mem_nil, fun p h => absurd h List.not_mem_nil⟩, Nat.zero_le _, Nat.zero_le _, Nat.zero_le _, Nat.zero_le _, fun r hr => absurd hr (Nat.not_lt_zero r), fun i hi => absurd hi (Nat.not_lt_zero i)⟩
theorem IX.rep {σ : mS} (h : IX σ) : RepX A0 σ := by
  obtain ⟨h0, hk⟩ := h
  have hz : ∀ k, k ≠ 0 → ∀ i, σ k i = 0 := fun k hk0 i => by rw [hk k hk0]; rfl
  have hl : ∀ x, x < 28 → ld σ x = x := fun x hx => by
    unfold ld
    rw [h0 x hx]
    exact nv_nI (by omega)
  have hsb : ∀ n s, sb σ n s = false := fun n s => by unfold sb; rw [hz 1 (by decide)]; exact b_0 s
  have hfb : ∀ n s, fb σ n s = false := fun n s => by unfold fb; rw [hz 2 (by decide)]; exact b_0 s
  have hgb : ∀ n s, gb σ n s = false := fun n s => by unfold gb; rw [hz 3 (by decide)]; exact b_0 s
  refine ⟨A0_AW, ⟨⟨hz 8 (by decide) 0, Nat.zero_le 20, fun i p hp => ?_⟩, hz 12 (by decide) 0, Nat.zero_le 20, fun i p hp => ?_⟩, ⟨⟨fun x hx => ?_, fun n _ s hs => ?_, fun n _ m hm => ?_, fun n _ s hs => ?_, ?_, fun n _ _ s hs => ?_⟩, ?_, ?_, ?_⟩, ?_, ⟨hz 17 (by decide) 0, fun r hr => absurd hr (Nat.not_lt_zero r)⟩, hz 21 (by decide) 0, fun i hi => absurd hi (Nat.not_lt_zero i)⟩
  · have hp : ([] : List (Nat × Nat × Nat))[i]? = some p := hp
    simp at hp
  · have hp : ([] : List (Nat × Nat × Nat))[i]? = some p := hp
    simp at hp
  · rw [hl x hx]
    exact ⟨h0 x hx, hx, hl x hx⟩
  · rw [hsb] at hs; cases hs
  · rw [hgb] at hm; cases hm
  · rw [hfb] at hs; cases hs
  · refine ⟨List.nodup_nil, fun n hn => absurd hn List.not_mem_nil, fun n hn => ?_, 0, by decide, hz 6 (by decide) 0, hz 7 (by decide) 0, fun i m hi => ?_⟩
    · rw [if_neg List.not_mem_nil]
      exact hz 4 (by decide) n
    · simp at hi
  · rw [hfb] at hs; cases hs
  · intro S _
    refine ⟨fun x hx s => by rw [hl x hx], fun n _ s hs => ?_, fun n _ m hm => ?_⟩
    · rw [hsb] at hs; cases hs
    · rw [hgb] at hm; cases hm
  · exact ⟨fun v s h => False.elim h, fun v w h => False.elim h⟩
  · refine ⟨fun a _ _ m _ hg => ?_, fun i p hp => ?_, fun i p hp => ?_⟩
    · rw [hgb] at hg; cases hg
    · have hp : ([] : List (Nat × Nat × Nat))[i]? = some p := hp
      simp at hp
    · have hp : ([] : List (Nat × Nat × Nat))[i]? = some p := hp
      simp at hp
  · rw [hz 16 (by decide)]
    refine zmask_eq fun s => ?_
    rw [b_0]
    show false = (decide (s < 8) && false)
    rw [Bool.and_false]
theorem IM.rep {σ : mS} (h : IM σ) : RepM A0 σ := by
  have hz : ∀ k i, σ k i = 0 := fun k i => by rw [show σ = sgz from h]; rfl
  refine ⟨A0_AW, ⟨A0_AW.1, fun v _ s => ?_, fun v _ w => ?_, ⟨hz 2 0, Nat.zero_le 20, fun i p hp => ?_⟩, hz 6 0, Nat.zero_le 20, fun i p hp => ?_⟩, fun s _ => hz 10 s, ⟨hz 11 0, fun r hr => absurd hr (Nat.not_lt_zero r)⟩, ⟨hz 15 0, fun i hi => absurd hi (Nat.not_lt_zero i)⟩, Or.inl (hz 20 0)⟩
  · rw [hz, b_0]
    exact ⟨fun q => (by cases q), fun q => False.elim q⟩
  · rw [hz, b_0]
    exact ⟨fun q => (by cases q), fun q => False.elim q⟩
  · have hp : ([] : List (Nat × Nat × Nat))[i]? = some p := hp
    simp at hp
  · have hp : ([] : List (Nat × Nat × Nat))[i]? = some p := hp
    simp at hp
/-- two worlds side by side -/
def TW (D : va_G) (A : Nat → Prop) (w1 w2 : va_W) (H : Heap) : Prop := va_P D vwCl w1 H ∧ va_P D vwCl w2 H ∧ va_D A w1 ∧ va_D A w2 ∧ ∀ (i j : Nat) (x y : Nat × va_E), w1[i]? = some x → w2[j]? = some y → x.1 ≠ y.1
theorem TW.symm {D : va_G} {A : Nat → Prop} {w1 w2 : va_W} {H : Heap} (h : TW D A w1 w2 H) : TW D A w2 w1 H := ⟨h.2.1, h.1, h.2.2.2.1, h.2.2.1, fun i j x y hx hy e => h.2.2.2.2 j i y x hy hx e.symm⟩
theorem TW.app {D : va_G} {A : Nat → Prop} {w1 w2 : va_W} {H : Heap} (hP : va_P D vwCl (w1 ++ w2) H) (hD : va_D A (w1 ++ w2)) : TW D A w1 w2 H := by
  have g1 : ∀ (k : Nat) (q : Nat × va_E), w1[k]? = some q → (w1 ++ w2)[k]? = some q := fun k q h => by
    rw [List.getElem?_append_left (List.getElem?_eq_some_iff.mp h).1]
    exact h
  have g2 : ∀ (k : Nat) (q : Nat × va_E), w2[k]? = some q → (w1 ++ w2)[w1.length + k]? = some q := fun k q h => by
    rw [List.getElem?_append_right (by omega), Nat.add_sub_cancel_left]
    exact h
  refine ⟨fun k q h => hP k q (g1 k q h), fun k q h => hP _ q (g2 k q h), ⟨fun i j x y hx hy e => hD.1 i j x y (g1 i x hx) (g1 j y hy) e, fun k q h => hD.2 k q (g1 k q h)⟩, ⟨fun i j x y hx hy e => ?_, fun k q h => hD.2 _ q (g2 k q h)⟩, fun i j x y hx hy e => ?_⟩
  · have := hD.1 _ _ x y (g2 i x hx) (g2 j y hy) e
    omega
  · have h1 := hD.1 _ _ x y (g1 i x hx) (g2 j y hy) e
    have h2 := (List.getElem?_eq_some_iff.mp hx).1
    omega
theorem TW.call {D : va_G} {A : Nat → Prop} {wc w2 w1' : va_W} {H H1 : Heap} (hW : TW D A wc w2 H) (hFc : ∀ q, va_A wc H.size q → A q) (hk : ∀ q : Nat, q < H.size → ¬ va_A wc H.size q → H1[q]? = H[q]?) (hP1 : va_P D vwCl w1' H1) (hD1 : va_D (va_A wc H.size) w1') : TW D A w1' w2 H1 := by
  have apart : ∀ (k : Nat) (q : Nat × va_E), w2[k]? = some q → q.1 < H.size ∧ ¬ va_A wc H.size q.1 := by
    intro k q hq
    have hl := (hW.2.1 k q hq).lt
    refine ⟨hl, fun h => ?_⟩
    rcases h with ⟨k2, e, h⟩ | h
    · exact hW.2.2.2.2 k2 k (q.1, e) q h hq rfl
    · omega
  refine ⟨hP1, fun k q hq => (hW.2.1 k q hq).kept (hk q.1 (apart k q hq).1 (apart k q hq).2), hD1.weaken (fun _ q _ hq => hFc q.1 hq), hW.2.2.2.1, fun i j x y hx hy e => ?_⟩
  have := hD1.2 i x hx
  rw [e] at this
  exact (apart j y hy).2 this
theorem TW.free {D : va_G} {A : Nat → Prop} {wc w2 : va_W} {H H0 : Heap} {locs : List Loc} (hW : TW D A wc w2 H) (hA : ∀ q, H0.size ≤ q → A q) (hS : va_S A H0 H locs) : ∀ q, va_A wc H.size q → A q := by
  intro q hq
  rcases hq with ⟨k, e, hq⟩ | hq
  · exact hW.2.2.1.2 k (q, e) hq
  · exact hA q (Nat.le_trans hS.1 hq)
section LW
variable {p : Program} {l : Launch} {e : Env} {R : Room} {s : State} {m : MethodId} {args : Array Value} {below : List Frame} {meth : Method} {c : Code} {H : Heap} {locs : List Loc} {cells slots : Nat} {Q : State → Prop}
variable {pc : Nat} {ls : Array Slot} {rest st0 : List Value} {a : Array Value} {A0 A1 : Nat → Prop} {H0 : Heap} {mc ms : Nat} {free : Addr → Prop}
theorem m_call2 {post : Option Int32 → mS → Prop} {B : mS → State → Prop} (hr : va_Run p l e R s m args below meth c H locs cells slots mc ms (F0 m pc ls st0) rest (mQ post B A1 a) free) (hS : va_S A0 H0 H locs) (hA : ∀ q, q < H.size → A1 q → A0 q) (hf : ∀ q, free q → A0 q)
    (kk : ∀ (r : Option Int32) (u : mS) (t : State) (H1 : Heap) (locs1 : List Loc), t.heap = H1 → s.vm.Alike t.vm → post r u → B u t → (∀ q : Nat, q < H.size → ¬ A1 q → H1[q]? = H[q]?) → va_S A0 H0 H1 locs1 → W p l e R s m args below meth c H1 locs1 (cells + mc) (slots + ms) Q (F0 m (pc + 3) ls ((r.map Value.int).toList ++ rest))) : W p l e R s m args below meth c H locs cells slots Q (F0 m pc ls st0) := by
  intro T hT X
  obtain ⟨v, st₀, t, T', L, h0, X', hL, e1, e2, ⟨⟨r, u, hv, hp, hb⟩, hz, hk⟩, st⟩ := hr T hT X
  cases hv
  rw [h0] at hz hk
  obtain ⟨t2, a1, b1⟩ := kk r u t T'.heap (locs ++ L) e1.symm (by rw [← e2]; exact X'.warmed.alike) hp hb (fun q h1 h2 => by rw [e1]; exact hk q h1 h2)
    ⟨Nat.le_trans hS.1 (by rw [e1]; exact hz), fun q h1 h2 => by rw [e1, hk q (Nat.lt_of_lt_of_le h1 hS.1) (fun z => h2 (hA q (Nat.lt_of_lt_of_le h1 hS.1) z))]; exact hS.2.1 q h1 h2, fun q hq => by
      rcases List.mem_append.mp hq with h | h
      · exact hS.2.2 q h
      · exact hf _ (hL q h)⟩ T' rfl X'
  exact ⟨t2, st t2 a1, b1⟩
end LW
section LX
variable {p : Program} {l : Launch} {e : Env} {R : Room} {s : State} {m : MethodId} {args : Array Value} {below : List Frame} {meth : Method} {c : Code} {H : Heap} {locs : List Loc} {cells slots : Nat} {Q : State → Prop}
variable {pc : Nat} {ls : Array Slot} {rest : List Value} {D : va_G} {cI cZ : ClassId} {α : Nat → Nat} {A : Nat → Prop}
set_option maxHeartbeats 4000000 in
/-- a call of a method of one object, out of the law -/
theorem lawcall {ci : Nat} {fd : List (Nat × Nat)} {σ : mS} {w2 : va_W} {C : String} {T : u_T} {N : Nat} (hC : vwCl[ci]? = some (C, T, N)) {y : MethodName} {cc' : ByteArray} {nL' d : Nat} {ret' : Option FieldType} {Tm : mT} (hM : mMet vwCl ci fd d y cc' nL' ret' true Tm) {vs : List Int32} {n : Nat} (hn : vs.length = n) {ans : Int32} {P : mS → Prop} (hT : Tm vs σ (fun r u => r = some ans ∧ P u))
    (hx : p.tables.exec = Jvm.exec) (hb : c.code = code) (hml : c.maxLocals = 4) (hown : s.vm.findClass "RaceFinderLaw" = some m.cls) (hts : ∀ w ∈ lw_all, w.before args s = true)
    {idx : Nat} (h1 : Jvm.Cond.methodLink "RaceFinderLaw" idx y ∈ lw_all) (h2 : Jvm.Cond.instanceMethod y ∈ lw_all) (h3 : Jvm.Cond.selects C y y ∈ lw_all) (h4 : Jvm.Cond.initialized C ∈ lw_all) (h5 : Jvm.Cond.code y cc' nL' ret' ∈ lw_all)
    (hdd : y.cls = C ∧ y.cls ≠ "java/lang/invoke/MethodHandle" ∧ y.cls ≠ "java/lang/invoke/VarHandle" ∧ (parseMethodDescriptor y.desc).map (fun d => d.parameters.length) = some n)
    (hR : d + 1 ≤ R.frames ∧ 8 + (nL' + 11) + 28 * d ≤ R.locals) (hf : cells ≤ R.cells ∧ slots ≤ R.slots)
    (hK : va_K D vwCl [(cI, .int), (cZ, .boolean)] s) (hA : ∀ q, s.heap.size ≤ q → A q) (hW : TW D A (mW ci fd cI cZ α σ) w2 H) (hS : va_S A s.heap H locs) (hls : ls.size = 4) (hrest : (rest.map fun v => v.category).sum ≤ 8) {st : List Value} (hst : st = (vs.map Value.int).reverse ++ .ref (α 99) :: rest)
    (dg : decode code pc = .ok (.invokevirtual idx, 3))
    (kk : ∀ (u : mS) (H1 : Heap) (locs1 : List Loc), P u → TW D A (mW ci fd cI cZ α u) w2 H1 → va_S A s.heap H1 locs1 → W p l e R s m args below meth c H1 locs1 cells slots Q (F0 m (pc + 3) ls (.int ans :: rest))) : W p l e R s m args below meth c H locs cells slots Q (F0 m pc ls st) := by
  have hFc := hW.free hA hS
  have hP := hW.1
  have hD := hW.2.2.1
  have hCW : CallW R s args "RaceFinderLaw" C idx y cc' nL' ret' (ws_ y cc' nL' ret') (mRm d) 0 0 n := cwV n hts (lw_V h1 h2 h3 h4 h5) rfl rfl rfl hdd hR
  have hM1 := hM l D cI cZ α H.size vs σ _ hT
  refine m_call2 (va_runV (C := C) (b := α 99) (As := vs.map Value.int) (rest := rest) ⟨hx, hb, hml, hown, hts⟩ hM1 hCW ⟨fun a U g mk q => by obtain ⟨q0, q1, qP, qK, qD⟩ := q; exact ⟨q0, q1, qP, va_K.moved (u := U) (U := U.calling g mk a) (Vm.Alike.refl U.vm) qK, qD⟩, va_recv hK hP hC (q0 := 0) rfl, fun U hU hW => ⟨rfl, by rw [hU], by rw [hU]; exact hP, va_K.moved hW.alike hK, hD.weaken (fun _ _ _ _ => trivial)⟩⟩ rfl (by rw [List.length_map]; exact hn) hls hst (lv_room hrest) dg hf) hS (fun q _ hq => hFc q hq) hFc (fun x u t H1 locs1 ht hvm hw hB hk hS1 => ?_)
  obtain ⟨hP1, hK1, hD1⟩ := hB
  rw [ht] at hP1
  obtain ⟨hw1, hw2⟩ := hw
  subst hw1
  exact kk u H1 locs1 hw2 (hW.call hFc hk hP1 hD1) hS1
/-- script[i + k] -/
theorem lawarg (hx : p.tables.exec = Jvm.exec) (hb : c.code = code) {b L : Nat} {xs : Nat → Int32} (hX : va_X b L xs s s.heap) (hbl : b < s.heap.size) (hbA : ¬ A b) (hS : va_S A s.heap H locs) {i : Nat} (k : Nat) (hk : i + k < L) (hL : L ≤ 320) (l0 : ls[0]? = some (.val (.ref b))) (l3 : ls[3]? = some (.val (.int (nI i)))) {kz : Int} (hkz : Int32.ofInt kz = nI k)
    (d1 : decode code pc = .ok (.aload_n 0, 1)) (d2 : decode code (pc + 1) = .ok (.iload_n 3, 1)) (d3 : decode code (pc + 2) = .ok (.iconst kz, 1)) (d4 : decode code (pc + 3) = .ok (.iadd, 1)) (d5 : decode code (pc + 4) = .ok (.iaload, 1))
    (kk : W p l e R s m args below meth c H locs cells slots Q (F0 m (pc + 5) ls (.int (xs (i + k)) :: rest))) : W p l e R s m args below meth c H locs cells slots Q (F0 m pc ls rest) := by
  refine lv_aload_n hx hb d1 rfl l0 ?_
  refine lv_iload_n hx hb d2 rfl l3 ?_
  refine lv_iconst hx hb d3 hkz ?_
  refine lv_iadd hx hb d4 ?_
  rw [nI_add]
  refine va_sld hx hb hX hbl hbA hS (zi_in hk (by omega)) d5 ?_
  rw [nI_clamp (by omega)]
  exact kk
/-- script[..] != 0 -/
theorem lawbool (hx : p.tables.exec = Jvm.exec) (hb : c.code = code) {v : Int32} (d1 : decode code pc = .ok (.ifCond .eq 7, 3)) (d2 : decode code (pc + 3) = .ok (.iconst 1, 1)) (d3 : decode code (pc + 4) = .ok (.goto 4, 3)) (d4 : decode code (pc + 7) = .ok (.iconst 0, 1))
    (kk : W p l e R s m args below meth c H locs cells slots Q (F0 m (pc + 8) ls (.int (if v = 0 then 0 else 1) :: rest))) : W p l e R s m args below meth c H locs cells slots Q (F0 m pc ls (.int v :: rest)) := by
  refine lv_if_eq (tgt := pc + 7) hx hb d1 (by omega) (fun q => ?_) (fun q => ?_)
  · refine lv_iconst (v := 0) hx hb d4 (by decide) ?_
    rw [if_pos q] at kk
    exact kk
  · refine lv_iconst (v := 1) hx hb d2 (by decide) ?_
    refine lv_goto (tgt := pc + 8) hx hb d3 (by omega) ?_
    rw [if_neg q] at kk
    exact kk
end LX
theorem law01 (v : Int32) : (if v = 0 then (0 : Int32) else 1) = 0 ∨ (if v = 0 then (0 : Int32) else 1) = 1 := by
  split
  · exact Or.inl rfl
  · exact Or.inr rfl
/-- both classes hold the same value -/
def LSt (D : va_G) (cI cZ : ClassId) (αX αM : Nat → Nat) (A : Nat → Prop) (H : Heap) : Prop := ∃ (B : AS) (σX σM : mS), RepX B σX ∧ RepM B σM ∧ TW D A (mW 0 fdX0 cI cZ αX σX) (mW 1 fdX1 cI cZ αM σM) H
end
section
/-! printed by gen/law.py: the law's decode rows -/
set_option maxRecDepth 100000
theorem dL_law_0 : decode code 0 = .ok (.new 7, 3) := by decide +kernel
theorem dL_law_3 : decode code 3 = .ok (.dup, 1) := by decide +kernel
theorem dL_law_4 : decode code 4 = .ok (.invokespecial 9, 3) := by decide +kernel
theorem dL_law_7 : decode code 7 = .ok (.astore_n 1, 1) := by decide +kernel
theorem dL_law_8 : decode code 8 = .ok (.new 10, 3) := by decide +kernel
theorem dL_law_11 : decode code 11 = .ok (.dup, 1) := by decide +kernel
theorem dL_law_12 : decode code 12 = .ok (.invokespecial 12, 3) := by decide +kernel
theorem dL_law_15 : decode code 15 = .ok (.astore_n 2, 1) := by decide +kernel
theorem dL_law_16 : decode code 16 = .ok (.iconst 0, 1) := by decide +kernel
theorem dL_law_17 : decode code 17 = .ok (.istore_n 3, 1) := by decide +kernel
theorem dL_law_18 : decode code 18 = .ok (.iload_n 3, 1) := by decide +kernel
theorem dL_law_19 : decode code 19 = .ok (.aload_n 0, 1) := by decide +kernel
theorem dL_law_20 : decode code 20 = .ok (.arraylength, 1) := by decide +kernel
theorem dL_law_21 : decode code 21 = .ok (.iconst 5, 1) := by decide +kernel
theorem dL_law_22 : decode code 22 = .ok (.isub, 1) := by decide +kernel
theorem dL_law_23 : decode code 23 = .ok (.if_icmp .gt 534, 3) := by decide +kernel
theorem dL_law_26 : decode code 26 = .ok (.aload_n 0, 1) := by decide +kernel
theorem dL_law_27 : decode code 27 = .ok (.iload_n 3, 1) := by decide +kernel
theorem dL_law_28 : decode code 28 = .ok (.iaload, 1) := by decide +kernel
theorem dL_law_29 : decode code 29 = .ok (.bipush 15, 2) := by decide +kernel
theorem dL_law_31 : decode code 31 = .ok (.iand, 1) := by decide +kernel
theorem dL_law_32 : decode code 32 = .ok (.tableswitch 519 0 12 #[68, 101, 134, 177, 220, 269, 312, 381, 404, 437, 470, 483, 506], 68) := by decide +kernel
theorem dL_law_100 : decode code 100 = .ok (.aload_n 1, 1) := by decide +kernel
theorem dL_law_101 : decode code 101 = .ok (.aload_n 0, 1) := by decide +kernel
theorem dL_law_102 : decode code 102 = .ok (.iload_n 3, 1) := by decide +kernel
theorem dL_law_103 : decode code 103 = .ok (.iconst 1, 1) := by decide +kernel
theorem dL_law_104 : decode code 104 = .ok (.iadd, 1) := by decide +kernel
theorem dL_law_105 : decode code 105 = .ok (.iaload, 1) := by decide +kernel
theorem dL_law_106 : decode code 106 = .ok (.aload_n 0, 1) := by decide +kernel
theorem dL_law_107 : decode code 107 = .ok (.iload_n 3, 1) := by decide +kernel
theorem dL_law_108 : decode code 108 = .ok (.iconst 2, 1) := by decide +kernel
theorem dL_law_109 : decode code 109 = .ok (.iadd, 1) := by decide +kernel
theorem dL_law_110 : decode code 110 = .ok (.iaload, 1) := by decide +kernel
theorem dL_law_111 : decode code 111 = .ok (.invokevirtual 13, 3) := by decide +kernel
theorem dL_law_114 : decode code 114 = .ok (.aload_n 2, 1) := by decide +kernel
theorem dL_law_115 : decode code 115 = .ok (.aload_n 0, 1) := by decide +kernel
theorem dL_law_116 : decode code 116 = .ok (.iload_n 3, 1) := by decide +kernel
theorem dL_law_117 : decode code 117 = .ok (.iconst 1, 1) := by decide +kernel
theorem dL_law_118 : decode code 118 = .ok (.iadd, 1) := by decide +kernel
theorem dL_law_119 : decode code 119 = .ok (.iaload, 1) := by decide +kernel
theorem dL_law_120 : decode code 120 = .ok (.aload_n 0, 1) := by decide +kernel
theorem dL_law_121 : decode code 121 = .ok (.iload_n 3, 1) := by decide +kernel
theorem dL_law_122 : decode code 122 = .ok (.iconst 2, 1) := by decide +kernel
theorem dL_law_123 : decode code 123 = .ok (.iadd, 1) := by decide +kernel
theorem dL_law_124 : decode code 124 = .ok (.iaload, 1) := by decide +kernel
theorem dL_law_125 : decode code 125 = .ok (.invokevirtual 17, 3) := by decide +kernel
theorem dL_law_128 : decode code 128 = .ok (.if_icmp .eq 423, 3) := by decide +kernel
theorem dL_law_131 : decode code 131 = .ok (.iconst 0, 1) := by decide +kernel
theorem dL_law_132 : decode code 132 = .ok (.ireturn, 1) := by decide +kernel
theorem dL_law_133 : decode code 133 = .ok (.aload_n 1, 1) := by decide +kernel
theorem dL_law_134 : decode code 134 = .ok (.aload_n 0, 1) := by decide +kernel
theorem dL_law_135 : decode code 135 = .ok (.iload_n 3, 1) := by decide +kernel
theorem dL_law_136 : decode code 136 = .ok (.iconst 1, 1) := by decide +kernel
theorem dL_law_137 : decode code 137 = .ok (.iadd, 1) := by decide +kernel
theorem dL_law_138 : decode code 138 = .ok (.iaload, 1) := by decide +kernel
theorem dL_law_139 : decode code 139 = .ok (.aload_n 0, 1) := by decide +kernel
theorem dL_law_140 : decode code 140 = .ok (.iload_n 3, 1) := by decide +kernel
theorem dL_law_141 : decode code 141 = .ok (.iconst 2, 1) := by decide +kernel
theorem dL_law_142 : decode code 142 = .ok (.iadd, 1) := by decide +kernel
theorem dL_law_143 : decode code 143 = .ok (.iaload, 1) := by decide +kernel
theorem dL_law_144 : decode code 144 = .ok (.invokevirtual 18, 3) := by decide +kernel
theorem dL_law_147 : decode code 147 = .ok (.aload_n 2, 1) := by decide +kernel
theorem dL_law_148 : decode code 148 = .ok (.aload_n 0, 1) := by decide +kernel
theorem dL_law_149 : decode code 149 = .ok (.iload_n 3, 1) := by decide +kernel
theorem dL_law_150 : decode code 150 = .ok (.iconst 1, 1) := by decide +kernel
theorem dL_law_151 : decode code 151 = .ok (.iadd, 1) := by decide +kernel
theorem dL_law_152 : decode code 152 = .ok (.iaload, 1) := by decide +kernel
theorem dL_law_153 : decode code 153 = .ok (.aload_n 0, 1) := by decide +kernel
theorem dL_law_154 : decode code 154 = .ok (.iload_n 3, 1) := by decide +kernel
theorem dL_law_155 : decode code 155 = .ok (.iconst 2, 1) := by decide +kernel
theorem dL_law_156 : decode code 156 = .ok (.iadd, 1) := by decide +kernel
theorem dL_law_157 : decode code 157 = .ok (.iaload, 1) := by decide +kernel
theorem dL_law_158 : decode code 158 = .ok (.invokevirtual 21, 3) := by decide +kernel
theorem dL_law_161 : decode code 161 = .ok (.if_icmp .eq 390, 3) := by decide +kernel
theorem dL_law_164 : decode code 164 = .ok (.iconst 0, 1) := by decide +kernel
theorem dL_law_165 : decode code 165 = .ok (.ireturn, 1) := by decide +kernel
theorem dL_law_166 : decode code 166 = .ok (.aload_n 1, 1) := by decide +kernel
theorem dL_law_167 : decode code 167 = .ok (.aload_n 0, 1) := by decide +kernel
theorem dL_law_168 : decode code 168 = .ok (.iload_n 3, 1) := by decide +kernel
theorem dL_law_169 : decode code 169 = .ok (.iconst 1, 1) := by decide +kernel
theorem dL_law_170 : decode code 170 = .ok (.iadd, 1) := by decide +kernel
theorem dL_law_171 : decode code 171 = .ok (.iaload, 1) := by decide +kernel
theorem dL_law_172 : decode code 172 = .ok (.aload_n 0, 1) := by decide +kernel
theorem dL_law_173 : decode code 173 = .ok (.iload_n 3, 1) := by decide +kernel
theorem dL_law_174 : decode code 174 = .ok (.iconst 2, 1) := by decide +kernel
theorem dL_law_175 : decode code 175 = .ok (.iadd, 1) := by decide +kernel
theorem dL_law_176 : decode code 176 = .ok (.iaload, 1) := by decide +kernel
theorem dL_law_177 : decode code 177 = .ok (.aload_n 0, 1) := by decide +kernel
theorem dL_law_178 : decode code 178 = .ok (.iload_n 3, 1) := by decide +kernel
theorem dL_law_179 : decode code 179 = .ok (.iconst 3, 1) := by decide +kernel
theorem dL_law_180 : decode code 180 = .ok (.iadd, 1) := by decide +kernel
theorem dL_law_181 : decode code 181 = .ok (.iaload, 1) := by decide +kernel
theorem dL_law_182 : decode code 182 = .ok (.invokevirtual 22, 3) := by decide +kernel
theorem dL_law_185 : decode code 185 = .ok (.aload_n 2, 1) := by decide +kernel
theorem dL_law_186 : decode code 186 = .ok (.aload_n 0, 1) := by decide +kernel
theorem dL_law_187 : decode code 187 = .ok (.iload_n 3, 1) := by decide +kernel
theorem dL_law_188 : decode code 188 = .ok (.iconst 1, 1) := by decide +kernel
theorem dL_law_189 : decode code 189 = .ok (.iadd, 1) := by decide +kernel
theorem dL_law_190 : decode code 190 = .ok (.iaload, 1) := by decide +kernel
theorem dL_law_191 : decode code 191 = .ok (.aload_n 0, 1) := by decide +kernel
theorem dL_law_192 : decode code 192 = .ok (.iload_n 3, 1) := by decide +kernel
theorem dL_law_193 : decode code 193 = .ok (.iconst 2, 1) := by decide +kernel
theorem dL_law_194 : decode code 194 = .ok (.iadd, 1) := by decide +kernel
theorem dL_law_195 : decode code 195 = .ok (.iaload, 1) := by decide +kernel
theorem dL_law_196 : decode code 196 = .ok (.aload_n 0, 1) := by decide +kernel
theorem dL_law_197 : decode code 197 = .ok (.iload_n 3, 1) := by decide +kernel
theorem dL_law_198 : decode code 198 = .ok (.iconst 3, 1) := by decide +kernel
theorem dL_law_199 : decode code 199 = .ok (.iadd, 1) := by decide +kernel
theorem dL_law_200 : decode code 200 = .ok (.iaload, 1) := by decide +kernel
theorem dL_law_201 : decode code 201 = .ok (.invokevirtual 26, 3) := by decide +kernel
theorem dL_law_204 : decode code 204 = .ok (.if_icmp .eq 347, 3) := by decide +kernel
theorem dL_law_207 : decode code 207 = .ok (.iconst 0, 1) := by decide +kernel
theorem dL_law_208 : decode code 208 = .ok (.ireturn, 1) := by decide +kernel
theorem dL_law_209 : decode code 209 = .ok (.aload_n 1, 1) := by decide +kernel
theorem dL_law_210 : decode code 210 = .ok (.aload_n 0, 1) := by decide +kernel
theorem dL_law_211 : decode code 211 = .ok (.iload_n 3, 1) := by decide +kernel
theorem dL_law_212 : decode code 212 = .ok (.iconst 1, 1) := by decide +kernel
theorem dL_law_213 : decode code 213 = .ok (.iadd, 1) := by decide +kernel
theorem dL_law_214 : decode code 214 = .ok (.iaload, 1) := by decide +kernel
theorem dL_law_215 : decode code 215 = .ok (.aload_n 0, 1) := by decide +kernel
theorem dL_law_216 : decode code 216 = .ok (.iload_n 3, 1) := by decide +kernel
theorem dL_law_217 : decode code 217 = .ok (.iconst 2, 1) := by decide +kernel
theorem dL_law_218 : decode code 218 = .ok (.iadd, 1) := by decide +kernel
theorem dL_law_219 : decode code 219 = .ok (.iaload, 1) := by decide +kernel
theorem dL_law_220 : decode code 220 = .ok (.aload_n 0, 1) := by decide +kernel
theorem dL_law_221 : decode code 221 = .ok (.iload_n 3, 1) := by decide +kernel
theorem dL_law_222 : decode code 222 = .ok (.iconst 3, 1) := by decide +kernel
theorem dL_law_223 : decode code 223 = .ok (.iadd, 1) := by decide +kernel
theorem dL_law_224 : decode code 224 = .ok (.iaload, 1) := by decide +kernel
theorem dL_law_225 : decode code 225 = .ok (.invokevirtual 27, 3) := by decide +kernel
theorem dL_law_228 : decode code 228 = .ok (.aload_n 2, 1) := by decide +kernel
theorem dL_law_229 : decode code 229 = .ok (.aload_n 0, 1) := by decide +kernel
theorem dL_law_230 : decode code 230 = .ok (.iload_n 3, 1) := by decide +kernel
theorem dL_law_231 : decode code 231 = .ok (.iconst 1, 1) := by decide +kernel
theorem dL_law_232 : decode code 232 = .ok (.iadd, 1) := by decide +kernel
theorem dL_law_233 : decode code 233 = .ok (.iaload, 1) := by decide +kernel
theorem dL_law_234 : decode code 234 = .ok (.aload_n 0, 1) := by decide +kernel
theorem dL_law_235 : decode code 235 = .ok (.iload_n 3, 1) := by decide +kernel
theorem dL_law_236 : decode code 236 = .ok (.iconst 2, 1) := by decide +kernel
theorem dL_law_237 : decode code 237 = .ok (.iadd, 1) := by decide +kernel
theorem dL_law_238 : decode code 238 = .ok (.iaload, 1) := by decide +kernel
theorem dL_law_239 : decode code 239 = .ok (.aload_n 0, 1) := by decide +kernel
theorem dL_law_240 : decode code 240 = .ok (.iload_n 3, 1) := by decide +kernel
theorem dL_law_241 : decode code 241 = .ok (.iconst 3, 1) := by decide +kernel
theorem dL_law_242 : decode code 242 = .ok (.iadd, 1) := by decide +kernel
theorem dL_law_243 : decode code 243 = .ok (.iaload, 1) := by decide +kernel
theorem dL_law_244 : decode code 244 = .ok (.invokevirtual 30, 3) := by decide +kernel
theorem dL_law_247 : decode code 247 = .ok (.if_icmp .eq 304, 3) := by decide +kernel
theorem dL_law_250 : decode code 250 = .ok (.iconst 0, 1) := by decide +kernel
theorem dL_law_251 : decode code 251 = .ok (.ireturn, 1) := by decide +kernel
theorem dL_law_252 : decode code 252 = .ok (.aload_n 1, 1) := by decide +kernel
theorem dL_law_253 : decode code 253 = .ok (.aload_n 0, 1) := by decide +kernel
theorem dL_law_254 : decode code 254 = .ok (.iload_n 3, 1) := by decide +kernel
theorem dL_law_255 : decode code 255 = .ok (.iconst 1, 1) := by decide +kernel
theorem dL_law_256 : decode code 256 = .ok (.iadd, 1) := by decide +kernel
theorem dL_law_257 : decode code 257 = .ok (.iaload, 1) := by decide +kernel
theorem dL_law_258 : decode code 258 = .ok (.aload_n 0, 1) := by decide +kernel
theorem dL_law_259 : decode code 259 = .ok (.iload_n 3, 1) := by decide +kernel
theorem dL_law_260 : decode code 260 = .ok (.iconst 2, 1) := by decide +kernel
theorem dL_law_261 : decode code 261 = .ok (.iadd, 1) := by decide +kernel
theorem dL_law_262 : decode code 262 = .ok (.iaload, 1) := by decide +kernel
theorem dL_law_263 : decode code 263 = .ok (.ifCond .eq 7, 3) := by decide +kernel
theorem dL_law_266 : decode code 266 = .ok (.iconst 1, 1) := by decide +kernel
theorem dL_law_267 : decode code 267 = .ok (.goto 4, 3) := by decide +kernel
theorem dL_law_270 : decode code 270 = .ok (.iconst 0, 1) := by decide +kernel
theorem dL_law_271 : decode code 271 = .ok (.invokevirtual 31, 3) := by decide +kernel
theorem dL_law_274 : decode code 274 = .ok (.aload_n 2, 1) := by decide +kernel
theorem dL_law_275 : decode code 275 = .ok (.aload_n 0, 1) := by decide +kernel
theorem dL_law_276 : decode code 276 = .ok (.iload_n 3, 1) := by decide +kernel
theorem dL_law_277 : decode code 277 = .ok (.iconst 1, 1) := by decide +kernel
theorem dL_law_278 : decode code 278 = .ok (.iadd, 1) := by decide +kernel
theorem dL_law_279 : decode code 279 = .ok (.iaload, 1) := by decide +kernel
theorem dL_law_280 : decode code 280 = .ok (.aload_n 0, 1) := by decide +kernel
theorem dL_law_281 : decode code 281 = .ok (.iload_n 3, 1) := by decide +kernel
theorem dL_law_282 : decode code 282 = .ok (.iconst 2, 1) := by decide +kernel
theorem dL_law_283 : decode code 283 = .ok (.iadd, 1) := by decide +kernel
theorem dL_law_284 : decode code 284 = .ok (.iaload, 1) := by decide +kernel
theorem dL_law_285 : decode code 285 = .ok (.ifCond .eq 7, 3) := by decide +kernel
theorem dL_law_288 : decode code 288 = .ok (.iconst 1, 1) := by decide +kernel
theorem dL_law_289 : decode code 289 = .ok (.goto 4, 3) := by decide +kernel
theorem dL_law_292 : decode code 292 = .ok (.iconst 0, 1) := by decide +kernel
theorem dL_law_293 : decode code 293 = .ok (.invokevirtual 35, 3) := by decide +kernel
theorem dL_law_296 : decode code 296 = .ok (.if_icmp .eq 255, 3) := by decide +kernel
theorem dL_law_299 : decode code 299 = .ok (.iconst 0, 1) := by decide +kernel
theorem dL_law_300 : decode code 300 = .ok (.ireturn, 1) := by decide +kernel
theorem dL_law_301 : decode code 301 = .ok (.aload_n 1, 1) := by decide +kernel
theorem dL_law_302 : decode code 302 = .ok (.aload_n 0, 1) := by decide +kernel
theorem dL_law_303 : decode code 303 = .ok (.iload_n 3, 1) := by decide +kernel
theorem dL_law_304 : decode code 304 = .ok (.iconst 1, 1) := by decide +kernel
theorem dL_law_305 : decode code 305 = .ok (.iadd, 1) := by decide +kernel
theorem dL_law_306 : decode code 306 = .ok (.iaload, 1) := by decide +kernel
theorem dL_law_307 : decode code 307 = .ok (.aload_n 0, 1) := by decide +kernel
theorem dL_law_308 : decode code 308 = .ok (.iload_n 3, 1) := by decide +kernel
theorem dL_law_309 : decode code 309 = .ok (.iconst 2, 1) := by decide +kernel
theorem dL_law_310 : decode code 310 = .ok (.iadd, 1) := by decide +kernel
theorem dL_law_311 : decode code 311 = .ok (.iaload, 1) := by decide +kernel
theorem dL_law_312 : decode code 312 = .ok (.aload_n 0, 1) := by decide +kernel
theorem dL_law_313 : decode code 313 = .ok (.iload_n 3, 1) := by decide +kernel
theorem dL_law_314 : decode code 314 = .ok (.iconst 3, 1) := by decide +kernel
theorem dL_law_315 : decode code 315 = .ok (.iadd, 1) := by decide +kernel
theorem dL_law_316 : decode code 316 = .ok (.iaload, 1) := by decide +kernel
theorem dL_law_317 : decode code 317 = .ok (.invokevirtual 36, 3) := by decide +kernel
theorem dL_law_320 : decode code 320 = .ok (.aload_n 2, 1) := by decide +kernel
theorem dL_law_321 : decode code 321 = .ok (.aload_n 0, 1) := by decide +kernel
theorem dL_law_322 : decode code 322 = .ok (.iload_n 3, 1) := by decide +kernel
theorem dL_law_323 : decode code 323 = .ok (.iconst 1, 1) := by decide +kernel
theorem dL_law_324 : decode code 324 = .ok (.iadd, 1) := by decide +kernel
theorem dL_law_325 : decode code 325 = .ok (.iaload, 1) := by decide +kernel
theorem dL_law_326 : decode code 326 = .ok (.aload_n 0, 1) := by decide +kernel
theorem dL_law_327 : decode code 327 = .ok (.iload_n 3, 1) := by decide +kernel
theorem dL_law_328 : decode code 328 = .ok (.iconst 2, 1) := by decide +kernel
theorem dL_law_329 : decode code 329 = .ok (.iadd, 1) := by decide +kernel
theorem dL_law_330 : decode code 330 = .ok (.iaload, 1) := by decide +kernel
theorem dL_law_331 : decode code 331 = .ok (.aload_n 0, 1) := by decide +kernel
theorem dL_law_332 : decode code 332 = .ok (.iload_n 3, 1) := by decide +kernel
theorem dL_law_333 : decode code 333 = .ok (.iconst 3, 1) := by decide +kernel
theorem dL_law_334 : decode code 334 = .ok (.iadd, 1) := by decide +kernel
theorem dL_law_335 : decode code 335 = .ok (.iaload, 1) := by decide +kernel
theorem dL_law_336 : decode code 336 = .ok (.invokevirtual 39, 3) := by decide +kernel
theorem dL_law_339 : decode code 339 = .ok (.if_icmp .eq 212, 3) := by decide +kernel
theorem dL_law_342 : decode code 342 = .ok (.iconst 0, 1) := by decide +kernel
theorem dL_law_343 : decode code 343 = .ok (.ireturn, 1) := by decide +kernel
theorem dL_law_344 : decode code 344 = .ok (.aload_n 1, 1) := by decide +kernel
theorem dL_law_345 : decode code 345 = .ok (.aload_n 0, 1) := by decide +kernel
theorem dL_law_346 : decode code 346 = .ok (.iload_n 3, 1) := by decide +kernel
theorem dL_law_347 : decode code 347 = .ok (.iconst 1, 1) := by decide +kernel
theorem dL_law_348 : decode code 348 = .ok (.iadd, 1) := by decide +kernel
theorem dL_law_349 : decode code 349 = .ok (.iaload, 1) := by decide +kernel
theorem dL_law_350 : decode code 350 = .ok (.aload_n 0, 1) := by decide +kernel
theorem dL_law_351 : decode code 351 = .ok (.iload_n 3, 1) := by decide +kernel
theorem dL_law_352 : decode code 352 = .ok (.iconst 2, 1) := by decide +kernel
theorem dL_law_353 : decode code 353 = .ok (.iadd, 1) := by decide +kernel
theorem dL_law_354 : decode code 354 = .ok (.iaload, 1) := by decide +kernel
theorem dL_law_355 : decode code 355 = .ok (.aload_n 0, 1) := by decide +kernel
theorem dL_law_356 : decode code 356 = .ok (.iload_n 3, 1) := by decide +kernel
theorem dL_law_357 : decode code 357 = .ok (.iconst 3, 1) := by decide +kernel
theorem dL_law_358 : decode code 358 = .ok (.iadd, 1) := by decide +kernel
theorem dL_law_359 : decode code 359 = .ok (.iaload, 1) := by decide +kernel
theorem dL_law_360 : decode code 360 = .ok (.aload_n 0, 1) := by decide +kernel
theorem dL_law_361 : decode code 361 = .ok (.iload_n 3, 1) := by decide +kernel
theorem dL_law_362 : decode code 362 = .ok (.iconst 4, 1) := by decide +kernel
theorem dL_law_363 : decode code 363 = .ok (.iadd, 1) := by decide +kernel
theorem dL_law_364 : decode code 364 = .ok (.iaload, 1) := by decide +kernel
theorem dL_law_365 : decode code 365 = .ok (.ifCond .eq 7, 3) := by decide +kernel
theorem dL_law_368 : decode code 368 = .ok (.iconst 1, 1) := by decide +kernel
theorem dL_law_369 : decode code 369 = .ok (.goto 4, 3) := by decide +kernel
theorem dL_law_372 : decode code 372 = .ok (.iconst 0, 1) := by decide +kernel
theorem dL_law_373 : decode code 373 = .ok (.invokevirtual 40, 3) := by decide +kernel
theorem dL_law_376 : decode code 376 = .ok (.aload_n 2, 1) := by decide +kernel
theorem dL_law_377 : decode code 377 = .ok (.aload_n 0, 1) := by decide +kernel
theorem dL_law_378 : decode code 378 = .ok (.iload_n 3, 1) := by decide +kernel
theorem dL_law_379 : decode code 379 = .ok (.iconst 1, 1) := by decide +kernel
theorem dL_law_380 : decode code 380 = .ok (.iadd, 1) := by decide +kernel
theorem dL_law_381 : decode code 381 = .ok (.iaload, 1) := by decide +kernel
theorem dL_law_382 : decode code 382 = .ok (.aload_n 0, 1) := by decide +kernel
theorem dL_law_383 : decode code 383 = .ok (.iload_n 3, 1) := by decide +kernel
theorem dL_law_384 : decode code 384 = .ok (.iconst 2, 1) := by decide +kernel
theorem dL_law_385 : decode code 385 = .ok (.iadd, 1) := by decide +kernel
theorem dL_law_386 : decode code 386 = .ok (.iaload, 1) := by decide +kernel
theorem dL_law_387 : decode code 387 = .ok (.aload_n 0, 1) := by decide +kernel
theorem dL_law_388 : decode code 388 = .ok (.iload_n 3, 1) := by decide +kernel
theorem dL_law_389 : decode code 389 = .ok (.iconst 3, 1) := by decide +kernel
theorem dL_law_390 : decode code 390 = .ok (.iadd, 1) := by decide +kernel
theorem dL_law_391 : decode code 391 = .ok (.iaload, 1) := by decide +kernel
theorem dL_law_392 : decode code 392 = .ok (.aload_n 0, 1) := by decide +kernel
theorem dL_law_393 : decode code 393 = .ok (.iload_n 3, 1) := by decide +kernel
theorem dL_law_394 : decode code 394 = .ok (.iconst 4, 1) := by decide +kernel
theorem dL_law_395 : decode code 395 = .ok (.iadd, 1) := by decide +kernel
theorem dL_law_396 : decode code 396 = .ok (.iaload, 1) := by decide +kernel
theorem dL_law_397 : decode code 397 = .ok (.ifCond .eq 7, 3) := by decide +kernel
theorem dL_law_400 : decode code 400 = .ok (.iconst 1, 1) := by decide +kernel
theorem dL_law_401 : decode code 401 = .ok (.goto 4, 3) := by decide +kernel
theorem dL_law_404 : decode code 404 = .ok (.iconst 0, 1) := by decide +kernel
theorem dL_law_405 : decode code 405 = .ok (.invokevirtual 44, 3) := by decide +kernel
theorem dL_law_408 : decode code 408 = .ok (.if_icmp .eq 143, 3) := by decide +kernel
theorem dL_law_411 : decode code 411 = .ok (.iconst 0, 1) := by decide +kernel
theorem dL_law_412 : decode code 412 = .ok (.ireturn, 1) := by decide +kernel
theorem dL_law_413 : decode code 413 = .ok (.aload_n 1, 1) := by decide +kernel
theorem dL_law_414 : decode code 414 = .ok (.aload_n 0, 1) := by decide +kernel
theorem dL_law_415 : decode code 415 = .ok (.iload_n 3, 1) := by decide +kernel
theorem dL_law_416 : decode code 416 = .ok (.iconst 1, 1) := by decide +kernel
theorem dL_law_417 : decode code 417 = .ok (.iadd, 1) := by decide +kernel
theorem dL_law_418 : decode code 418 = .ok (.iaload, 1) := by decide +kernel
theorem dL_law_419 : decode code 419 = .ok (.invokevirtual 45, 3) := by decide +kernel
theorem dL_law_422 : decode code 422 = .ok (.aload_n 2, 1) := by decide +kernel
theorem dL_law_423 : decode code 423 = .ok (.aload_n 0, 1) := by decide +kernel
theorem dL_law_424 : decode code 424 = .ok (.iload_n 3, 1) := by decide +kernel
theorem dL_law_425 : decode code 425 = .ok (.iconst 1, 1) := by decide +kernel
theorem dL_law_426 : decode code 426 = .ok (.iadd, 1) := by decide +kernel
theorem dL_law_427 : decode code 427 = .ok (.iaload, 1) := by decide +kernel
theorem dL_law_428 : decode code 428 = .ok (.invokevirtual 49, 3) := by decide +kernel
theorem dL_law_431 : decode code 431 = .ok (.if_icmp .eq 120, 3) := by decide +kernel
theorem dL_law_434 : decode code 434 = .ok (.iconst 0, 1) := by decide +kernel
theorem dL_law_435 : decode code 435 = .ok (.ireturn, 1) := by decide +kernel
theorem dL_law_436 : decode code 436 = .ok (.aload_n 1, 1) := by decide +kernel
theorem dL_law_437 : decode code 437 = .ok (.aload_n 0, 1) := by decide +kernel
theorem dL_law_438 : decode code 438 = .ok (.iload_n 3, 1) := by decide +kernel
theorem dL_law_439 : decode code 439 = .ok (.iconst 1, 1) := by decide +kernel
theorem dL_law_440 : decode code 440 = .ok (.iadd, 1) := by decide +kernel
theorem dL_law_441 : decode code 441 = .ok (.iaload, 1) := by decide +kernel
theorem dL_law_442 : decode code 442 = .ok (.aload_n 0, 1) := by decide +kernel
theorem dL_law_443 : decode code 443 = .ok (.iload_n 3, 1) := by decide +kernel
theorem dL_law_444 : decode code 444 = .ok (.iconst 2, 1) := by decide +kernel
theorem dL_law_445 : decode code 445 = .ok (.iadd, 1) := by decide +kernel
theorem dL_law_446 : decode code 446 = .ok (.iaload, 1) := by decide +kernel
theorem dL_law_447 : decode code 447 = .ok (.invokevirtual 50, 3) := by decide +kernel
theorem dL_law_450 : decode code 450 = .ok (.aload_n 2, 1) := by decide +kernel
theorem dL_law_451 : decode code 451 = .ok (.aload_n 0, 1) := by decide +kernel
theorem dL_law_452 : decode code 452 = .ok (.iload_n 3, 1) := by decide +kernel
theorem dL_law_453 : decode code 453 = .ok (.iconst 1, 1) := by decide +kernel
theorem dL_law_454 : decode code 454 = .ok (.iadd, 1) := by decide +kernel
theorem dL_law_455 : decode code 455 = .ok (.iaload, 1) := by decide +kernel
theorem dL_law_456 : decode code 456 = .ok (.aload_n 0, 1) := by decide +kernel
theorem dL_law_457 : decode code 457 = .ok (.iload_n 3, 1) := by decide +kernel
theorem dL_law_458 : decode code 458 = .ok (.iconst 2, 1) := by decide +kernel
theorem dL_law_459 : decode code 459 = .ok (.iadd, 1) := by decide +kernel
theorem dL_law_460 : decode code 460 = .ok (.iaload, 1) := by decide +kernel
theorem dL_law_461 : decode code 461 = .ok (.invokevirtual 53, 3) := by decide +kernel
theorem dL_law_464 : decode code 464 = .ok (.if_icmp .eq 87, 3) := by decide +kernel
theorem dL_law_467 : decode code 467 = .ok (.iconst 0, 1) := by decide +kernel
theorem dL_law_468 : decode code 468 = .ok (.ireturn, 1) := by decide +kernel
theorem dL_law_469 : decode code 469 = .ok (.aload_n 1, 1) := by decide +kernel
theorem dL_law_470 : decode code 470 = .ok (.aload_n 0, 1) := by decide +kernel
theorem dL_law_471 : decode code 471 = .ok (.iload_n 3, 1) := by decide +kernel
theorem dL_law_472 : decode code 472 = .ok (.iconst 1, 1) := by decide +kernel
theorem dL_law_473 : decode code 473 = .ok (.iadd, 1) := by decide +kernel
theorem dL_law_474 : decode code 474 = .ok (.iaload, 1) := by decide +kernel
theorem dL_law_475 : decode code 475 = .ok (.aload_n 0, 1) := by decide +kernel
theorem dL_law_476 : decode code 476 = .ok (.iload_n 3, 1) := by decide +kernel
theorem dL_law_477 : decode code 477 = .ok (.iconst 2, 1) := by decide +kernel
theorem dL_law_478 : decode code 478 = .ok (.iadd, 1) := by decide +kernel
theorem dL_law_479 : decode code 479 = .ok (.iaload, 1) := by decide +kernel
theorem dL_law_480 : decode code 480 = .ok (.invokevirtual 54, 3) := by decide +kernel
theorem dL_law_483 : decode code 483 = .ok (.aload_n 2, 1) := by decide +kernel
theorem dL_law_484 : decode code 484 = .ok (.aload_n 0, 1) := by decide +kernel
theorem dL_law_485 : decode code 485 = .ok (.iload_n 3, 1) := by decide +kernel
theorem dL_law_486 : decode code 486 = .ok (.iconst 1, 1) := by decide +kernel
theorem dL_law_487 : decode code 487 = .ok (.iadd, 1) := by decide +kernel
theorem dL_law_488 : decode code 488 = .ok (.iaload, 1) := by decide +kernel
theorem dL_law_489 : decode code 489 = .ok (.aload_n 0, 1) := by decide +kernel
theorem dL_law_490 : decode code 490 = .ok (.iload_n 3, 1) := by decide +kernel
theorem dL_law_491 : decode code 491 = .ok (.iconst 2, 1) := by decide +kernel
theorem dL_law_492 : decode code 492 = .ok (.iadd, 1) := by decide +kernel
theorem dL_law_493 : decode code 493 = .ok (.iaload, 1) := by decide +kernel
theorem dL_law_494 : decode code 494 = .ok (.invokevirtual 58, 3) := by decide +kernel
theorem dL_law_497 : decode code 497 = .ok (.if_icmp .eq 54, 3) := by decide +kernel
theorem dL_law_500 : decode code 500 = .ok (.iconst 0, 1) := by decide +kernel
theorem dL_law_501 : decode code 501 = .ok (.ireturn, 1) := by decide +kernel
theorem dL_law_502 : decode code 502 = .ok (.aload_n 1, 1) := by decide +kernel
theorem dL_law_503 : decode code 503 = .ok (.invokevirtual 59, 3) := by decide +kernel
theorem dL_law_506 : decode code 506 = .ok (.aload_n 2, 1) := by decide +kernel
theorem dL_law_507 : decode code 507 = .ok (.invokevirtual 63, 3) := by decide +kernel
theorem dL_law_510 : decode code 510 = .ok (.if_icmp .eq 41, 3) := by decide +kernel
theorem dL_law_513 : decode code 513 = .ok (.iconst 0, 1) := by decide +kernel
theorem dL_law_514 : decode code 514 = .ok (.ireturn, 1) := by decide +kernel
theorem dL_law_515 : decode code 515 = .ok (.aload_n 1, 1) := by decide +kernel
theorem dL_law_516 : decode code 516 = .ok (.aload_n 0, 1) := by decide +kernel
theorem dL_law_517 : decode code 517 = .ok (.iload_n 3, 1) := by decide +kernel
theorem dL_law_518 : decode code 518 = .ok (.iconst 1, 1) := by decide +kernel
theorem dL_law_519 : decode code 519 = .ok (.iadd, 1) := by decide +kernel
theorem dL_law_520 : decode code 520 = .ok (.iaload, 1) := by decide +kernel
theorem dL_law_521 : decode code 521 = .ok (.invokevirtual 64, 3) := by decide +kernel
theorem dL_law_524 : decode code 524 = .ok (.aload_n 2, 1) := by decide +kernel
theorem dL_law_525 : decode code 525 = .ok (.aload_n 0, 1) := by decide +kernel
theorem dL_law_526 : decode code 526 = .ok (.iload_n 3, 1) := by decide +kernel
theorem dL_law_527 : decode code 527 = .ok (.iconst 1, 1) := by decide +kernel
theorem dL_law_528 : decode code 528 = .ok (.iadd, 1) := by decide +kernel
theorem dL_law_529 : decode code 529 = .ok (.iaload, 1) := by decide +kernel
theorem dL_law_530 : decode code 530 = .ok (.invokevirtual 67, 3) := by decide +kernel
theorem dL_law_533 : decode code 533 = .ok (.if_icmp .eq 18, 3) := by decide +kernel
theorem dL_law_536 : decode code 536 = .ok (.iconst 0, 1) := by decide +kernel
theorem dL_law_537 : decode code 537 = .ok (.ireturn, 1) := by decide +kernel
theorem dL_law_538 : decode code 538 = .ok (.aload_n 1, 1) := by decide +kernel
theorem dL_law_539 : decode code 539 = .ok (.invokevirtual 68, 3) := by decide +kernel
theorem dL_law_542 : decode code 542 = .ok (.aload_n 2, 1) := by decide +kernel
theorem dL_law_543 : decode code 543 = .ok (.invokevirtual 71, 3) := by decide +kernel
theorem dL_law_546 : decode code 546 = .ok (.if_icmp .eq 5, 3) := by decide +kernel
theorem dL_law_549 : decode code 549 = .ok (.iconst 0, 1) := by decide +kernel
theorem dL_law_550 : decode code 550 = .ok (.ireturn, 1) := by decide +kernel
theorem dL_law_551 : decode code 551 = .ok (.iinc 3 5, 3) := by decide +kernel
theorem dL_law_554 : decode code 554 = .ok (.goto (-536), 3) := by decide +kernel
theorem dL_law_557 : decode code 557 = .ok (.iconst 1, 1) := by decide +kernel
theorem dL_law_558 : decode code 558 = .ok (.ireturn, 1) := by decide +kernel
end
section
/-! printed by gen/law.py: the law's cases -/
set_option maxRecDepth 100000
set_option maxHeartbeats 4000000 in
theorem law_alloc {p : Program} {l : Launch} {e : Env} {s : State} {m : MethodId} {args : Array Value} {below : List Frame} {meth : Method} {c : Code} {H : Heap} {locs : List Loc} {cells slots : Nat} {Q : State → Prop} {ls : Array Slot} {D : va_G} {cI cZ : ClassId} {αX αM : Nat → Nat} {A : Nat → Prop} {b L i : Nat} {xs : Nat → Int32}
    (hx : p.tables.exec = Jvm.exec) (hb : c.code = code) (hml : c.maxLocals = 4) (hown : s.vm.findClass "RaceFinderLaw" = some m.cls) (hts : ∀ w ∈ lw_all, w.before args s = true) (hX : va_X b L xs s s.heap) (hbl : b < s.heap.size) (hbA : ¬ A b) (hL : L ≤ 320) (hi : i + 5 ≤ L)
    (hl : lv_has ls 4 [(0, .ref b), (1, .ref (αX 99)), (2, .ref (αM 99)), (3, .int (nI i))]) (hf : cells ≤ room_1.cells ∧ slots ≤ room_1.slots) (hK : va_K D vwCl [(cI, .int), (cZ, .boolean)] s) (hA : ∀ q, s.heap.size ≤ q → A q) (hLS : LSt D cI cZ αX αM A H) (hS : va_S A s.heap H locs)
    (kk : ∀ (H1 : Heap) (locs1 : List Loc), LSt D cI cZ αX αM A H1 → va_S A s.heap H1 locs1 → W p l e room_1 s m args below meth c H1 locs1 cells slots Q (F0 m 551 ls [])) : W p l e room_1 s m args below meth c H locs cells slots Q (F0 m 100 ls []) := by
  obtain ⟨B, σX, σM, hBX, hBM, hTW⟩ := hLS
  refine lv_aload_n hx hb dL_law_100 rfl (lv_at hl 1 rfl) ?_
  refine lawarg hx hb hX hbl hbA hS 1 (by omega) hL (lv_at hl 0 rfl) (lv_at hl 3 rfl) (by decide) dL_law_101 dL_law_102 dL_law_103 dL_law_104 dL_law_105 ?_
  refine lawarg hx hb hX hbl hbA hS 2 (by omega) hL (lv_at hl 0 rfl) (lv_at hl 3 rfl) (by decide) dL_law_106 dL_law_107 dL_law_108 dL_law_109 dL_law_110 ?_
  refine lawcall (ci := 0) (fd := fdX0) (α := αX) (σ := σX) (rest := []) rfl X0k_alloc (vs := [(xs (i + 1)), (xs (i + 2))]) (n := 2) rfl (ans := (opAlloc B (xs (i + 1)) (xs (i + 2))).1) (P := (fun u => RepX (opAlloc B (xs (i + 1)) (xs (i + 2))).2 u)) ⟨B, ⟨hBX, _, _, rfl⟩, fun x τ h => ⟨congrArg some (h _ _ rfl).1, (h _ _ rfl).2⟩⟩ hx hb hml hown hts q146 q147 q148 q34 q149 ⟨rfl, by decide +kernel, by decide +kernel, by decide +kernel⟩ ⟨by decide, by decide⟩ hf hK hA hTW hS hl.1 (Nat.le_of_ble_eq_true rfl) rfl dL_law_111 (fun uX HX locsX hBX hTW hSX => ?_)
  refine lv_aload_n hx hb dL_law_114 rfl (lv_at hl 2 rfl) ?_
  refine lawarg hx hb hX hbl hbA hSX 1 (by omega) hL (lv_at hl 0 rfl) (lv_at hl 3 rfl) (by decide) dL_law_115 dL_law_116 dL_law_117 dL_law_118 dL_law_119 ?_
  refine lawarg hx hb hX hbl hbA hSX 2 (by omega) hL (lv_at hl 0 rfl) (lv_at hl 3 rfl) (by decide) dL_law_120 dL_law_121 dL_law_122 dL_law_123 dL_law_124 ?_
  refine lawcall (ci := 1) (fd := fdX1) (α := αM) (σ := σM) (rest := [.int (opAlloc B (xs (i + 1)) (xs (i + 2))).1]) rfl X1k_alloc (vs := [(xs (i + 1)), (xs (i + 2))]) (n := 2) rfl (ans := (opAlloc B (xs (i + 1)) (xs (i + 2))).1) (P := (fun u => RepM (opAlloc B (xs (i + 1)) (xs (i + 2))).2 u)) ⟨B, ⟨hBM, _, _, rfl⟩, fun x τ h => ⟨congrArg some (h _ _ rfl).1, (h _ _ rfl).2⟩⟩ hx hb hml hown hts q375 q376 q377 q35 q378 ⟨rfl, by decide +kernel, by decide +kernel, by decide +kernel⟩ ⟨by decide, by decide⟩ hf hK hA hTW.symm hSX hl.1 (Nat.le_of_ble_eq_true rfl) rfl dL_law_125 (fun uM HM locsM hBM hTW hSM => ?_)
  exact lv_icmp_eq (tgt := 551) hx hb dL_law_128 (by decide) (fun _ => kk _ _ ⟨(opAlloc B (xs (i + 1)) (xs (i + 2))).2, _, _, hBX, hBM, hTW.symm⟩ hSM) (fun q => absurd rfl q)
set_option maxHeartbeats 4000000 in
theorem law_copy {p : Program} {l : Launch} {e : Env} {s : State} {m : MethodId} {args : Array Value} {below : List Frame} {meth : Method} {c : Code} {H : Heap} {locs : List Loc} {cells slots : Nat} {Q : State → Prop} {ls : Array Slot} {D : va_G} {cI cZ : ClassId} {αX αM : Nat → Nat} {A : Nat → Prop} {b L i : Nat} {xs : Nat → Int32}
    (hx : p.tables.exec = Jvm.exec) (hb : c.code = code) (hml : c.maxLocals = 4) (hown : s.vm.findClass "RaceFinderLaw" = some m.cls) (hts : ∀ w ∈ lw_all, w.before args s = true) (hX : va_X b L xs s s.heap) (hbl : b < s.heap.size) (hbA : ¬ A b) (hL : L ≤ 320) (hi : i + 5 ≤ L)
    (hl : lv_has ls 4 [(0, .ref b), (1, .ref (αX 99)), (2, .ref (αM 99)), (3, .int (nI i))]) (hf : cells ≤ room_1.cells ∧ slots ≤ room_1.slots) (hK : va_K D vwCl [(cI, .int), (cZ, .boolean)] s) (hA : ∀ q, s.heap.size ≤ q → A q) (hLS : LSt D cI cZ αX αM A H) (hS : va_S A s.heap H locs)
    (kk : ∀ (H1 : Heap) (locs1 : List Loc), LSt D cI cZ αX αM A H1 → va_S A s.heap H1 locs1 → W p l e room_1 s m args below meth c H1 locs1 cells slots Q (F0 m 551 ls [])) : W p l e room_1 s m args below meth c H locs cells slots Q (F0 m 133 ls []) := by
  obtain ⟨B, σX, σM, hBX, hBM, hTW⟩ := hLS
  refine lv_aload_n hx hb dL_law_133 rfl (lv_at hl 1 rfl) ?_
  refine lawarg hx hb hX hbl hbA hS 1 (by omega) hL (lv_at hl 0 rfl) (lv_at hl 3 rfl) (by decide) dL_law_134 dL_law_135 dL_law_136 dL_law_137 dL_law_138 ?_
  refine lawarg hx hb hX hbl hbA hS 2 (by omega) hL (lv_at hl 0 rfl) (lv_at hl 3 rfl) (by decide) dL_law_139 dL_law_140 dL_law_141 dL_law_142 dL_law_143 ?_
  refine lawcall (ci := 0) (fd := fdX0) (α := αX) (σ := σX) (rest := []) rfl X0k_copy (vs := [(xs (i + 1)), (xs (i + 2))]) (n := 2) rfl (ans := (opCopy B (xs (i + 1)) (xs (i + 2))).1) (P := (fun u => RepX (opCopy B (xs (i + 1)) (xs (i + 2))).2 u)) ⟨B, ⟨hBX, _, _, rfl⟩, fun x τ h => ⟨congrArg some (h _ _ rfl).1, (h _ _ rfl).2⟩⟩ hx hb hml hown hts q206 q207 q208 q34 q209 ⟨rfl, by decide +kernel, by decide +kernel, by decide +kernel⟩ ⟨by decide, by decide⟩ hf hK hA hTW hS hl.1 (Nat.le_of_ble_eq_true rfl) rfl dL_law_144 (fun uX HX locsX hBX hTW hSX => ?_)
  refine lv_aload_n hx hb dL_law_147 rfl (lv_at hl 2 rfl) ?_
  refine lawarg hx hb hX hbl hbA hSX 1 (by omega) hL (lv_at hl 0 rfl) (lv_at hl 3 rfl) (by decide) dL_law_148 dL_law_149 dL_law_150 dL_law_151 dL_law_152 ?_
  refine lawarg hx hb hX hbl hbA hSX 2 (by omega) hL (lv_at hl 0 rfl) (lv_at hl 3 rfl) (by decide) dL_law_153 dL_law_154 dL_law_155 dL_law_156 dL_law_157 ?_
  refine lawcall (ci := 1) (fd := fdX1) (α := αM) (σ := σM) (rest := [.int (opCopy B (xs (i + 1)) (xs (i + 2))).1]) rfl X1k_copy (vs := [(xs (i + 1)), (xs (i + 2))]) (n := 2) rfl (ans := (opCopy B (xs (i + 1)) (xs (i + 2))).1) (P := (fun u => RepM (opCopy B (xs (i + 1)) (xs (i + 2))).2 u)) ⟨B, ⟨hBM, _, _, rfl⟩, fun x τ h => ⟨congrArg some (h _ _ rfl).1, (h _ _ rfl).2⟩⟩ hx hb hml hown hts q399 q400 q401 q35 q402 ⟨rfl, by decide +kernel, by decide +kernel, by decide +kernel⟩ ⟨by decide, by decide⟩ hf hK hA hTW.symm hSX hl.1 (Nat.le_of_ble_eq_true rfl) rfl dL_law_158 (fun uM HM locsM hBM hTW hSM => ?_)
  exact lv_icmp_eq (tgt := 551) hx hb dL_law_161 (by decide) (fun _ => kk _ _ ⟨(opCopy B (xs (i + 1)) (xs (i + 2))).2, _, _, hBX, hBM, hTW.symm⟩ hSM) (fun q => absurd rfl q)
set_option maxHeartbeats 4000000 in
theorem law_load {p : Program} {l : Launch} {e : Env} {s : State} {m : MethodId} {args : Array Value} {below : List Frame} {meth : Method} {c : Code} {H : Heap} {locs : List Loc} {cells slots : Nat} {Q : State → Prop} {ls : Array Slot} {D : va_G} {cI cZ : ClassId} {αX αM : Nat → Nat} {A : Nat → Prop} {b L i : Nat} {xs : Nat → Int32}
    (hx : p.tables.exec = Jvm.exec) (hb : c.code = code) (hml : c.maxLocals = 4) (hown : s.vm.findClass "RaceFinderLaw" = some m.cls) (hts : ∀ w ∈ lw_all, w.before args s = true) (hX : va_X b L xs s s.heap) (hbl : b < s.heap.size) (hbA : ¬ A b) (hL : L ≤ 320) (hi : i + 5 ≤ L)
    (hl : lv_has ls 4 [(0, .ref b), (1, .ref (αX 99)), (2, .ref (αM 99)), (3, .int (nI i))]) (hf : cells ≤ room_1.cells ∧ slots ≤ room_1.slots) (hK : va_K D vwCl [(cI, .int), (cZ, .boolean)] s) (hA : ∀ q, s.heap.size ≤ q → A q) (hLS : LSt D cI cZ αX αM A H) (hS : va_S A s.heap H locs)
    (kk : ∀ (H1 : Heap) (locs1 : List Loc), LSt D cI cZ αX αM A H1 → va_S A s.heap H1 locs1 → W p l e room_1 s m args below meth c H1 locs1 cells slots Q (F0 m 551 ls [])) : W p l e room_1 s m args below meth c H locs cells slots Q (F0 m 166 ls []) := by
  obtain ⟨B, σX, σM, hBX, hBM, hTW⟩ := hLS
  refine lv_aload_n hx hb dL_law_166 rfl (lv_at hl 1 rfl) ?_
  refine lawarg hx hb hX hbl hbA hS 1 (by omega) hL (lv_at hl 0 rfl) (lv_at hl 3 rfl) (by decide) dL_law_167 dL_law_168 dL_law_169 dL_law_170 dL_law_171 ?_
  refine lawarg hx hb hX hbl hbA hS 2 (by omega) hL (lv_at hl 0 rfl) (lv_at hl 3 rfl) (by decide) dL_law_172 dL_law_173 dL_law_174 dL_law_175 dL_law_176 ?_
  refine lawarg hx hb hX hbl hbA hS 3 (by omega) hL (lv_at hl 0 rfl) (lv_at hl 3 rfl) (by decide) dL_law_177 dL_law_178 dL_law_179 dL_law_180 dL_law_181 ?_
  refine lawcall (ci := 0) (fd := fdX0) (α := αX) (σ := σX) (rest := []) rfl X0k_load (vs := [(xs (i + 1)), (xs (i + 2)), (xs (i + 3))]) (n := 3) rfl (ans := (opLoad B (xs (i + 1)) (xs (i + 2)) (xs (i + 3))).1) (P := (fun u => RepX (opLoad B (xs (i + 1)) (xs (i + 2)) (xs (i + 3))).2 u)) ⟨B, ⟨hBX, _, _, _, rfl⟩, fun x τ h => ⟨congrArg some (h _ _ _ rfl).1, (h _ _ _ rfl).2⟩⟩ hx hb hml hown hts q210 q211 q212 q34 q213 ⟨rfl, by decide +kernel, by decide +kernel, by decide +kernel⟩ ⟨by decide, by decide⟩ hf hK hA hTW hS hl.1 (Nat.le_of_ble_eq_true rfl) rfl dL_law_182 (fun uX HX locsX hBX hTW hSX => ?_)
  refine lv_aload_n hx hb dL_law_185 rfl (lv_at hl 2 rfl) ?_
  refine lawarg hx hb hX hbl hbA hSX 1 (by omega) hL (lv_at hl 0 rfl) (lv_at hl 3 rfl) (by decide) dL_law_186 dL_law_187 dL_law_188 dL_law_189 dL_law_190 ?_
  refine lawarg hx hb hX hbl hbA hSX 2 (by omega) hL (lv_at hl 0 rfl) (lv_at hl 3 rfl) (by decide) dL_law_191 dL_law_192 dL_law_193 dL_law_194 dL_law_195 ?_
  refine lawarg hx hb hX hbl hbA hSX 3 (by omega) hL (lv_at hl 0 rfl) (lv_at hl 3 rfl) (by decide) dL_law_196 dL_law_197 dL_law_198 dL_law_199 dL_law_200 ?_
  refine lawcall (ci := 1) (fd := fdX1) (α := αM) (σ := σM) (rest := [.int (opLoad B (xs (i + 1)) (xs (i + 2)) (xs (i + 3))).1]) rfl X1k_load (vs := [(xs (i + 1)), (xs (i + 2)), (xs (i + 3))]) (n := 3) rfl (ans := (opLoad B (xs (i + 1)) (xs (i + 2)) (xs (i + 3))).1) (P := (fun u => RepM (opLoad B (xs (i + 1)) (xs (i + 2)) (xs (i + 3))).2 u)) ⟨B, ⟨hBM, _, _, _, rfl⟩, fun x τ h => ⟨congrArg some (h _ _ _ rfl).1, (h _ _ _ rfl).2⟩⟩ hx hb hml hown hts q403 q404 q405 q35 q406 ⟨rfl, by decide +kernel, by decide +kernel, by decide +kernel⟩ ⟨by decide, by decide⟩ hf hK hA hTW.symm hSX hl.1 (Nat.le_of_ble_eq_true rfl) rfl dL_law_201 (fun uM HM locsM hBM hTW hSM => ?_)
  exact lv_icmp_eq (tgt := 551) hx hb dL_law_204 (by decide) (fun _ => kk _ _ ⟨(opLoad B (xs (i + 1)) (xs (i + 2)) (xs (i + 3))).2, _, _, hBX, hBM, hTW.symm⟩ hSM) (fun q => absurd rfl q)
set_option maxHeartbeats 4000000 in
theorem law_store {p : Program} {l : Launch} {e : Env} {s : State} {m : MethodId} {args : Array Value} {below : List Frame} {meth : Method} {c : Code} {H : Heap} {locs : List Loc} {cells slots : Nat} {Q : State → Prop} {ls : Array Slot} {D : va_G} {cI cZ : ClassId} {αX αM : Nat → Nat} {A : Nat → Prop} {b L i : Nat} {xs : Nat → Int32}
    (hx : p.tables.exec = Jvm.exec) (hb : c.code = code) (hml : c.maxLocals = 4) (hown : s.vm.findClass "RaceFinderLaw" = some m.cls) (hts : ∀ w ∈ lw_all, w.before args s = true) (hX : va_X b L xs s s.heap) (hbl : b < s.heap.size) (hbA : ¬ A b) (hL : L ≤ 320) (hi : i + 5 ≤ L)
    (hl : lv_has ls 4 [(0, .ref b), (1, .ref (αX 99)), (2, .ref (αM 99)), (3, .int (nI i))]) (hf : cells ≤ room_1.cells ∧ slots ≤ room_1.slots) (hK : va_K D vwCl [(cI, .int), (cZ, .boolean)] s) (hA : ∀ q, s.heap.size ≤ q → A q) (hLS : LSt D cI cZ αX αM A H) (hS : va_S A s.heap H locs)
    (kk : ∀ (H1 : Heap) (locs1 : List Loc), LSt D cI cZ αX αM A H1 → va_S A s.heap H1 locs1 → W p l e room_1 s m args below meth c H1 locs1 cells slots Q (F0 m 551 ls [])) : W p l e room_1 s m args below meth c H locs cells slots Q (F0 m 209 ls []) := by
  obtain ⟨B, σX, σM, hBX, hBM, hTW⟩ := hLS
  refine lv_aload_n hx hb dL_law_209 rfl (lv_at hl 1 rfl) ?_
  refine lawarg hx hb hX hbl hbA hS 1 (by omega) hL (lv_at hl 0 rfl) (lv_at hl 3 rfl) (by decide) dL_law_210 dL_law_211 dL_law_212 dL_law_213 dL_law_214 ?_
  refine lawarg hx hb hX hbl hbA hS 2 (by omega) hL (lv_at hl 0 rfl) (lv_at hl 3 rfl) (by decide) dL_law_215 dL_law_216 dL_law_217 dL_law_218 dL_law_219 ?_
  refine lawarg hx hb hX hbl hbA hS 3 (by omega) hL (lv_at hl 0 rfl) (lv_at hl 3 rfl) (by decide) dL_law_220 dL_law_221 dL_law_222 dL_law_223 dL_law_224 ?_
  refine lawcall (ci := 0) (fd := fdX0) (α := αX) (σ := σX) (rest := []) rfl X0k_store (vs := [(xs (i + 1)), (xs (i + 2)), (xs (i + 3))]) (n := 3) rfl (ans := (opStore B (xs (i + 1)) (xs (i + 2)) (xs (i + 3))).1) (P := (fun u => RepX (opStore B (xs (i + 1)) (xs (i + 2)) (xs (i + 3))).2 u)) ⟨B, ⟨hBX, _, _, _, rfl⟩, fun x τ h => ⟨congrArg some (h _ _ _ rfl).1, (h _ _ _ rfl).2⟩⟩ hx hb hml hown hts q217 q218 q219 q34 q220 ⟨rfl, by decide +kernel, by decide +kernel, by decide +kernel⟩ ⟨by decide, by decide⟩ hf hK hA hTW hS hl.1 (Nat.le_of_ble_eq_true rfl) rfl dL_law_225 (fun uX HX locsX hBX hTW hSX => ?_)
  refine lv_aload_n hx hb dL_law_228 rfl (lv_at hl 2 rfl) ?_
  refine lawarg hx hb hX hbl hbA hSX 1 (by omega) hL (lv_at hl 0 rfl) (lv_at hl 3 rfl) (by decide) dL_law_229 dL_law_230 dL_law_231 dL_law_232 dL_law_233 ?_
  refine lawarg hx hb hX hbl hbA hSX 2 (by omega) hL (lv_at hl 0 rfl) (lv_at hl 3 rfl) (by decide) dL_law_234 dL_law_235 dL_law_236 dL_law_237 dL_law_238 ?_
  refine lawarg hx hb hX hbl hbA hSX 3 (by omega) hL (lv_at hl 0 rfl) (lv_at hl 3 rfl) (by decide) dL_law_239 dL_law_240 dL_law_241 dL_law_242 dL_law_243 ?_
  refine lawcall (ci := 1) (fd := fdX1) (α := αM) (σ := σM) (rest := [.int (opStore B (xs (i + 1)) (xs (i + 2)) (xs (i + 3))).1]) rfl X1k_store (vs := [(xs (i + 1)), (xs (i + 2)), (xs (i + 3))]) (n := 3) rfl (ans := (opStore B (xs (i + 1)) (xs (i + 2)) (xs (i + 3))).1) (P := (fun u => RepM (opStore B (xs (i + 1)) (xs (i + 2)) (xs (i + 3))).2 u)) ⟨B, ⟨hBM, _, _, _, rfl⟩, fun x τ h => ⟨congrArg some (h _ _ _ rfl).1, (h _ _ _ rfl).2⟩⟩ hx hb hml hown hts q411 q412 q413 q35 q414 ⟨rfl, by decide +kernel, by decide +kernel, by decide +kernel⟩ ⟨by decide, by decide⟩ hf hK hA hTW.symm hSX hl.1 (Nat.le_of_ble_eq_true rfl) rfl dL_law_244 (fun uM HM locsM hBM hTW hSM => ?_)
  exact lv_icmp_eq (tgt := 551) hx hb dL_law_247 (by decide) (fun _ => kk _ _ ⟨(opStore B (xs (i + 1)) (xs (i + 2)) (xs (i + 3))).2, _, _, hBX, hBM, hTW.symm⟩ hSM) (fun q => absurd rfl q)
set_option maxHeartbeats 4000000 in
theorem law_once {p : Program} {l : Launch} {e : Env} {s : State} {m : MethodId} {args : Array Value} {below : List Frame} {meth : Method} {c : Code} {H : Heap} {locs : List Loc} {cells slots : Nat} {Q : State → Prop} {ls : Array Slot} {D : va_G} {cI cZ : ClassId} {αX αM : Nat → Nat} {A : Nat → Prop} {b L i : Nat} {xs : Nat → Int32}
    (hx : p.tables.exec = Jvm.exec) (hb : c.code = code) (hml : c.maxLocals = 4) (hown : s.vm.findClass "RaceFinderLaw" = some m.cls) (hts : ∀ w ∈ lw_all, w.before args s = true) (hX : va_X b L xs s s.heap) (hbl : b < s.heap.size) (hbA : ¬ A b) (hL : L ≤ 320) (hi : i + 5 ≤ L)
    (hl : lv_has ls 4 [(0, .ref b), (1, .ref (αX 99)), (2, .ref (αM 99)), (3, .int (nI i))]) (hf : cells ≤ room_1.cells ∧ slots ≤ room_1.slots) (hK : va_K D vwCl [(cI, .int), (cZ, .boolean)] s) (hA : ∀ q, s.heap.size ≤ q → A q) (hLS : LSt D cI cZ αX αM A H) (hS : va_S A s.heap H locs)
    (kk : ∀ (H1 : Heap) (locs1 : List Loc), LSt D cI cZ αX αM A H1 → va_S A s.heap H1 locs1 → W p l e room_1 s m args below meth c H1 locs1 cells slots Q (F0 m 551 ls [])) : W p l e room_1 s m args below meth c H locs cells slots Q (F0 m 252 ls []) := by
  obtain ⟨B, σX, σM, hBX, hBM, hTW⟩ := hLS
  refine lv_aload_n hx hb dL_law_252 rfl (lv_at hl 1 rfl) ?_
  refine lawarg hx hb hX hbl hbA hS 1 (by omega) hL (lv_at hl 0 rfl) (lv_at hl 3 rfl) (by decide) dL_law_253 dL_law_254 dL_law_255 dL_law_256 dL_law_257 ?_
  refine lawarg hx hb hX hbl hbA hS 2 (by omega) hL (lv_at hl 0 rfl) (lv_at hl 3 rfl) (by decide) dL_law_258 dL_law_259 dL_law_260 dL_law_261 dL_law_262 ?_
  refine lawbool hx hb dL_law_263 dL_law_266 dL_law_267 dL_law_270 ?_
  refine lawcall (ci := 0) (fd := fdX0) (α := αX) (σ := σX) (rest := []) rfl X0k_once (vs := [(xs (i + 1)), (if xs (i + 2) = 0 then 0 else 1)]) (n := 2) rfl (ans := (opOnce B (xs (i + 1)) (if xs (i + 2) = 0 then 0 else 1)).1) (P := (fun u => RepX (opOnce B (xs (i + 1)) (if xs (i + 2) = 0 then 0 else 1)).2 u)) ⟨B, ⟨hBX, _, _, rfl⟩, fun x τ h => ⟨congrArg some (h _ _ rfl).1, (h _ _ rfl).2⟩⟩ hx hb hml hown hts q221 q222 q223 q34 q224 ⟨rfl, by decide +kernel, by decide +kernel, by decide +kernel⟩ ⟨by decide, by decide⟩ hf hK hA hTW hS hl.1 (Nat.le_of_ble_eq_true rfl) rfl dL_law_271 (fun uX HX locsX hBX hTW hSX => ?_)
  refine lv_aload_n hx hb dL_law_274 rfl (lv_at hl 2 rfl) ?_
  refine lawarg hx hb hX hbl hbA hSX 1 (by omega) hL (lv_at hl 0 rfl) (lv_at hl 3 rfl) (by decide) dL_law_275 dL_law_276 dL_law_277 dL_law_278 dL_law_279 ?_
  refine lawarg hx hb hX hbl hbA hSX 2 (by omega) hL (lv_at hl 0 rfl) (lv_at hl 3 rfl) (by decide) dL_law_280 dL_law_281 dL_law_282 dL_law_283 dL_law_284 ?_
  refine lawbool hx hb dL_law_285 dL_law_288 dL_law_289 dL_law_292 ?_
  refine lawcall (ci := 1) (fd := fdX1) (α := αM) (σ := σM) (rest := [.int (opOnce B (xs (i + 1)) (if xs (i + 2) = 0 then 0 else 1)).1]) rfl X1k_once (vs := [(xs (i + 1)), (if xs (i + 2) = 0 then 0 else 1)]) (n := 2) rfl (ans := (opOnce B (xs (i + 1)) (if xs (i + 2) = 0 then 0 else 1)).1) (P := (fun u => RepM (opOnce B (xs (i + 1)) (if xs (i + 2) = 0 then 0 else 1)).2 u)) ⟨B, ⟨hBM, _, _, rfl, law01 _⟩, fun x τ h => ⟨congrArg some (h _ _ rfl).1, (h _ _ rfl).2⟩⟩ hx hb hml hown hts q415 q416 q417 q35 q418 ⟨rfl, by decide +kernel, by decide +kernel, by decide +kernel⟩ ⟨by decide, by decide⟩ hf hK hA hTW.symm hSX hl.1 (Nat.le_of_ble_eq_true rfl) rfl dL_law_293 (fun uM HM locsM hBM hTW hSM => ?_)
  exact lv_icmp_eq (tgt := 551) hx hb dL_law_296 (by decide) (fun _ => kk _ _ ⟨(opOnce B (xs (i + 1)) (if xs (i + 2) = 0 then 0 else 1)).2, _, _, hBX, hBM, hTW.symm⟩ hSM) (fun q => absurd rfl q)
set_option maxHeartbeats 4000000 in
theorem law_region {p : Program} {l : Launch} {e : Env} {s : State} {m : MethodId} {args : Array Value} {below : List Frame} {meth : Method} {c : Code} {H : Heap} {locs : List Loc} {cells slots : Nat} {Q : State → Prop} {ls : Array Slot} {D : va_G} {cI cZ : ClassId} {αX αM : Nat → Nat} {A : Nat → Prop} {b L i : Nat} {xs : Nat → Int32}
    (hx : p.tables.exec = Jvm.exec) (hb : c.code = code) (hml : c.maxLocals = 4) (hown : s.vm.findClass "RaceFinderLaw" = some m.cls) (hts : ∀ w ∈ lw_all, w.before args s = true) (hX : va_X b L xs s s.heap) (hbl : b < s.heap.size) (hbA : ¬ A b) (hL : L ≤ 320) (hi : i + 5 ≤ L)
    (hl : lv_has ls 4 [(0, .ref b), (1, .ref (αX 99)), (2, .ref (αM 99)), (3, .int (nI i))]) (hf : cells ≤ room_1.cells ∧ slots ≤ room_1.slots) (hK : va_K D vwCl [(cI, .int), (cZ, .boolean)] s) (hA : ∀ q, s.heap.size ≤ q → A q) (hLS : LSt D cI cZ αX αM A H) (hS : va_S A s.heap H locs)
    (kk : ∀ (H1 : Heap) (locs1 : List Loc), LSt D cI cZ αX αM A H1 → va_S A s.heap H1 locs1 → W p l e room_1 s m args below meth c H1 locs1 cells slots Q (F0 m 551 ls [])) : W p l e room_1 s m args below meth c H locs cells slots Q (F0 m 301 ls []) := by
  obtain ⟨B, σX, σM, hBX, hBM, hTW⟩ := hLS
  refine lv_aload_n hx hb dL_law_301 rfl (lv_at hl 1 rfl) ?_
  refine lawarg hx hb hX hbl hbA hS 1 (by omega) hL (lv_at hl 0 rfl) (lv_at hl 3 rfl) (by decide) dL_law_302 dL_law_303 dL_law_304 dL_law_305 dL_law_306 ?_
  refine lawarg hx hb hX hbl hbA hS 2 (by omega) hL (lv_at hl 0 rfl) (lv_at hl 3 rfl) (by decide) dL_law_307 dL_law_308 dL_law_309 dL_law_310 dL_law_311 ?_
  refine lawarg hx hb hX hbl hbA hS 3 (by omega) hL (lv_at hl 0 rfl) (lv_at hl 3 rfl) (by decide) dL_law_312 dL_law_313 dL_law_314 dL_law_315 dL_law_316 ?_
  refine lawcall (ci := 0) (fd := fdX0) (α := αX) (σ := σX) (rest := []) rfl X0k_region (vs := [(xs (i + 1)), (xs (i + 2)), (xs (i + 3))]) (n := 3) rfl (ans := (opRegion B (xs (i + 1)) (xs (i + 2)) (xs (i + 3))).1) (P := (fun u => RepX (opRegion B (xs (i + 1)) (xs (i + 2)) (xs (i + 3))).2 u)) ⟨B, ⟨hBX, _, _, _, rfl⟩, fun x τ h => ⟨congrArg some (h _ _ _ rfl).1, (h _ _ _ rfl).2⟩⟩ hx hb hml hown hts q225 q226 q227 q34 q228 ⟨rfl, by decide +kernel, by decide +kernel, by decide +kernel⟩ ⟨by decide, by decide⟩ hf hK hA hTW hS hl.1 (Nat.le_of_ble_eq_true rfl) rfl dL_law_317 (fun uX HX locsX hBX hTW hSX => ?_)
  refine lv_aload_n hx hb dL_law_320 rfl (lv_at hl 2 rfl) ?_
  refine lawarg hx hb hX hbl hbA hSX 1 (by omega) hL (lv_at hl 0 rfl) (lv_at hl 3 rfl) (by decide) dL_law_321 dL_law_322 dL_law_323 dL_law_324 dL_law_325 ?_
  refine lawarg hx hb hX hbl hbA hSX 2 (by omega) hL (lv_at hl 0 rfl) (lv_at hl 3 rfl) (by decide) dL_law_326 dL_law_327 dL_law_328 dL_law_329 dL_law_330 ?_
  refine lawarg hx hb hX hbl hbA hSX 3 (by omega) hL (lv_at hl 0 rfl) (lv_at hl 3 rfl) (by decide) dL_law_331 dL_law_332 dL_law_333 dL_law_334 dL_law_335 ?_
  refine lawcall (ci := 1) (fd := fdX1) (α := αM) (σ := σM) (rest := [.int (opRegion B (xs (i + 1)) (xs (i + 2)) (xs (i + 3))).1]) rfl X1k_region (vs := [(xs (i + 1)), (xs (i + 2)), (xs (i + 3))]) (n := 3) rfl (ans := (opRegion B (xs (i + 1)) (xs (i + 2)) (xs (i + 3))).1) (P := (fun u => RepM (opRegion B (xs (i + 1)) (xs (i + 2)) (xs (i + 3))).2 u)) ⟨B, ⟨hBM, _, _, _, rfl⟩, fun x τ h => ⟨congrArg some (h _ _ _ rfl).1, (h _ _ _ rfl).2⟩⟩ hx hb hml hown hts q419 q420 q421 q35 q422 ⟨rfl, by decide +kernel, by decide +kernel, by decide +kernel⟩ ⟨by decide, by decide⟩ hf hK hA hTW.symm hSX hl.1 (Nat.le_of_ble_eq_true rfl) rfl dL_law_336 (fun uM HM locsM hBM hTW hSM => ?_)
  exact lv_icmp_eq (tgt := 551) hx hb dL_law_339 (by decide) (fun _ => kk _ _ ⟨(opRegion B (xs (i + 1)) (xs (i + 2)) (xs (i + 3))).2, _, _, hBX, hBM, hTW.symm⟩ hSM) (fun q => absurd rfl q)
set_option maxHeartbeats 4000000 in
theorem law_access {p : Program} {l : Launch} {e : Env} {s : State} {m : MethodId} {args : Array Value} {below : List Frame} {meth : Method} {c : Code} {H : Heap} {locs : List Loc} {cells slots : Nat} {Q : State → Prop} {ls : Array Slot} {D : va_G} {cI cZ : ClassId} {αX αM : Nat → Nat} {A : Nat → Prop} {b L i : Nat} {xs : Nat → Int32}
    (hx : p.tables.exec = Jvm.exec) (hb : c.code = code) (hml : c.maxLocals = 4) (hown : s.vm.findClass "RaceFinderLaw" = some m.cls) (hts : ∀ w ∈ lw_all, w.before args s = true) (hX : va_X b L xs s s.heap) (hbl : b < s.heap.size) (hbA : ¬ A b) (hL : L ≤ 320) (hi : i + 5 ≤ L)
    (hl : lv_has ls 4 [(0, .ref b), (1, .ref (αX 99)), (2, .ref (αM 99)), (3, .int (nI i))]) (hf : cells ≤ room_1.cells ∧ slots ≤ room_1.slots) (hK : va_K D vwCl [(cI, .int), (cZ, .boolean)] s) (hA : ∀ q, s.heap.size ≤ q → A q) (hLS : LSt D cI cZ αX αM A H) (hS : va_S A s.heap H locs)
    (kk : ∀ (H1 : Heap) (locs1 : List Loc), LSt D cI cZ αX αM A H1 → va_S A s.heap H1 locs1 → W p l e room_1 s m args below meth c H1 locs1 cells slots Q (F0 m 551 ls [])) : W p l e room_1 s m args below meth c H locs cells slots Q (F0 m 344 ls []) := by
  obtain ⟨B, σX, σM, hBX, hBM, hTW⟩ := hLS
  refine lv_aload_n hx hb dL_law_344 rfl (lv_at hl 1 rfl) ?_
  refine lawarg hx hb hX hbl hbA hS 1 (by omega) hL (lv_at hl 0 rfl) (lv_at hl 3 rfl) (by decide) dL_law_345 dL_law_346 dL_law_347 dL_law_348 dL_law_349 ?_
  refine lawarg hx hb hX hbl hbA hS 2 (by omega) hL (lv_at hl 0 rfl) (lv_at hl 3 rfl) (by decide) dL_law_350 dL_law_351 dL_law_352 dL_law_353 dL_law_354 ?_
  refine lawarg hx hb hX hbl hbA hS 3 (by omega) hL (lv_at hl 0 rfl) (lv_at hl 3 rfl) (by decide) dL_law_355 dL_law_356 dL_law_357 dL_law_358 dL_law_359 ?_
  refine lawarg hx hb hX hbl hbA hS 4 (by omega) hL (lv_at hl 0 rfl) (lv_at hl 3 rfl) (by decide) dL_law_360 dL_law_361 dL_law_362 dL_law_363 dL_law_364 ?_
  refine lawbool hx hb dL_law_365 dL_law_368 dL_law_369 dL_law_372 ?_
  refine lawcall (ci := 0) (fd := fdX0) (α := αX) (σ := σX) (rest := []) rfl X0k_access (vs := [(xs (i + 1)), (xs (i + 2)), (xs (i + 3)), (if xs (i + 4) = 0 then 0 else 1)]) (n := 4) rfl (ans := (opAccess B (xs (i + 1)) (xs (i + 2)) (xs (i + 3)) (if xs (i + 4) = 0 then 0 else 1)).1) (P := (fun u => RepX (opAccess B (xs (i + 1)) (xs (i + 2)) (xs (i + 3)) (if xs (i + 4) = 0 then 0 else 1)).2 u)) ⟨B, ⟨hBX, _, _, _, _, rfl, law01 _⟩, fun x τ h => ⟨congrArg some (h _ _ _ _ rfl).1, (h _ _ _ _ rfl).2⟩⟩ hx hb hml hown hts q229 q230 q231 q34 q232 ⟨rfl, by decide +kernel, by decide +kernel, by decide +kernel⟩ ⟨by decide, by decide⟩ hf hK hA hTW hS hl.1 (Nat.le_of_ble_eq_true rfl) rfl dL_law_373 (fun uX HX locsX hBX hTW hSX => ?_)
  refine lv_aload_n hx hb dL_law_376 rfl (lv_at hl 2 rfl) ?_
  refine lawarg hx hb hX hbl hbA hSX 1 (by omega) hL (lv_at hl 0 rfl) (lv_at hl 3 rfl) (by decide) dL_law_377 dL_law_378 dL_law_379 dL_law_380 dL_law_381 ?_
  refine lawarg hx hb hX hbl hbA hSX 2 (by omega) hL (lv_at hl 0 rfl) (lv_at hl 3 rfl) (by decide) dL_law_382 dL_law_383 dL_law_384 dL_law_385 dL_law_386 ?_
  refine lawarg hx hb hX hbl hbA hSX 3 (by omega) hL (lv_at hl 0 rfl) (lv_at hl 3 rfl) (by decide) dL_law_387 dL_law_388 dL_law_389 dL_law_390 dL_law_391 ?_
  refine lawarg hx hb hX hbl hbA hSX 4 (by omega) hL (lv_at hl 0 rfl) (lv_at hl 3 rfl) (by decide) dL_law_392 dL_law_393 dL_law_394 dL_law_395 dL_law_396 ?_
  refine lawbool hx hb dL_law_397 dL_law_400 dL_law_401 dL_law_404 ?_
  refine lawcall (ci := 1) (fd := fdX1) (α := αM) (σ := σM) (rest := [.int (opAccess B (xs (i + 1)) (xs (i + 2)) (xs (i + 3)) (if xs (i + 4) = 0 then 0 else 1)).1]) rfl X1k_access (vs := [(xs (i + 1)), (xs (i + 2)), (xs (i + 3)), (if xs (i + 4) = 0 then 0 else 1)]) (n := 4) rfl (ans := (opAccess B (xs (i + 1)) (xs (i + 2)) (xs (i + 3)) (if xs (i + 4) = 0 then 0 else 1)).1) (P := (fun u => RepM (opAccess B (xs (i + 1)) (xs (i + 2)) (xs (i + 3)) (if xs (i + 4) = 0 then 0 else 1)).2 u)) ⟨B, ⟨hBM, _, _, _, _, rfl, law01 _⟩, fun x τ h => ⟨congrArg some (h _ _ _ _ rfl).1, (h _ _ _ _ rfl).2⟩⟩ hx hb hml hown hts q423 q424 q425 q35 q426 ⟨rfl, by decide +kernel, by decide +kernel, by decide +kernel⟩ ⟨by decide, by decide⟩ hf hK hA hTW.symm hSX hl.1 (Nat.le_of_ble_eq_true rfl) rfl dL_law_405 (fun uM HM locsM hBM hTW hSM => ?_)
  exact lv_icmp_eq (tgt := 551) hx hb dL_law_408 (by decide) (fun _ => kk _ _ ⟨(opAccess B (xs (i + 1)) (xs (i + 2)) (xs (i + 3)) (if xs (i + 4) = 0 then 0 else 1)).2, _, _, hBX, hBM, hTW.symm⟩ hSM) (fun q => absurd rfl q)
set_option maxHeartbeats 4000000 in
theorem law_pointsTo {p : Program} {l : Launch} {e : Env} {s : State} {m : MethodId} {args : Array Value} {below : List Frame} {meth : Method} {c : Code} {H : Heap} {locs : List Loc} {cells slots : Nat} {Q : State → Prop} {ls : Array Slot} {D : va_G} {cI cZ : ClassId} {αX αM : Nat → Nat} {A : Nat → Prop} {b L i : Nat} {xs : Nat → Int32}
    (hx : p.tables.exec = Jvm.exec) (hb : c.code = code) (hml : c.maxLocals = 4) (hown : s.vm.findClass "RaceFinderLaw" = some m.cls) (hts : ∀ w ∈ lw_all, w.before args s = true) (hX : va_X b L xs s s.heap) (hbl : b < s.heap.size) (hbA : ¬ A b) (hL : L ≤ 320) (hi : i + 5 ≤ L)
    (hl : lv_has ls 4 [(0, .ref b), (1, .ref (αX 99)), (2, .ref (αM 99)), (3, .int (nI i))]) (hf : cells ≤ room_1.cells ∧ slots ≤ room_1.slots) (hK : va_K D vwCl [(cI, .int), (cZ, .boolean)] s) (hA : ∀ q, s.heap.size ≤ q → A q) (hLS : LSt D cI cZ αX αM A H) (hS : va_S A s.heap H locs)
    (kk : ∀ (H1 : Heap) (locs1 : List Loc), LSt D cI cZ αX αM A H1 → va_S A s.heap H1 locs1 → W p l e room_1 s m args below meth c H1 locs1 cells slots Q (F0 m 551 ls [])) : W p l e room_1 s m args below meth c H locs cells slots Q (F0 m 413 ls []) := by
  obtain ⟨B, σX, σM, hBX, hBM, hTW⟩ := hLS
  refine lv_aload_n hx hb dL_law_413 rfl (lv_at hl 1 rfl) ?_
  refine lawarg hx hb hX hbl hbA hS 1 (by omega) hL (lv_at hl 0 rfl) (lv_at hl 3 rfl) (by decide) dL_law_414 dL_law_415 dL_law_416 dL_law_417 dL_law_418 ?_
  refine lawcall (ci := 0) (fd := fdX0) (α := αX) (σ := σX) (rest := []) rfl X0k_pointsTo (vs := [(xs (i + 1))]) (n := 1) rfl (ans := (ansPoints B (xs (i + 1)))) (P := (fun u => RepX B u)) ⟨B, ⟨hBX, _, rfl⟩, fun x h => ⟨congrArg some (h _ rfl), hBX⟩⟩ hx hb hml hown hts q237 q238 q239 q34 q240 ⟨rfl, by decide +kernel, by decide +kernel, by decide +kernel⟩ ⟨by decide, by decide⟩ hf hK hA hTW hS hl.1 (Nat.le_of_ble_eq_true rfl) rfl dL_law_419 (fun uX HX locsX hBX hTW hSX => ?_)
  refine lv_aload_n hx hb dL_law_422 rfl (lv_at hl 2 rfl) ?_
  refine lawarg hx hb hX hbl hbA hSX 1 (by omega) hL (lv_at hl 0 rfl) (lv_at hl 3 rfl) (by decide) dL_law_423 dL_law_424 dL_law_425 dL_law_426 dL_law_427 ?_
  refine lawcall (ci := 1) (fd := fdX1) (α := αM) (σ := σM) (rest := [.int (ansPoints B (xs (i + 1)))]) rfl X1k_pointsTo (vs := [(xs (i + 1))]) (n := 1) rfl (ans := (ansPoints B (xs (i + 1)))) (P := (fun u => RepM B u)) ⟨B, ⟨hBM, _, rfl⟩, fun x τ h => ⟨congrArg some (h _ rfl).1, (h _ rfl).2⟩⟩ hx hb hml hown hts q431 q432 q433 q35 q434 ⟨rfl, by decide +kernel, by decide +kernel, by decide +kernel⟩ ⟨by decide, by decide⟩ hf hK hA hTW.symm hSX hl.1 (Nat.le_of_ble_eq_true rfl) rfl dL_law_428 (fun uM HM locsM hBM hTW hSM => ?_)
  exact lv_icmp_eq (tgt := 551) hx hb dL_law_431 (by decide) (fun _ => kk _ _ ⟨B, _, _, hBX, hBM, hTW.symm⟩ hSM) (fun q => absurd rfl q)
set_option maxHeartbeats 4000000 in
theorem law_holds {p : Program} {l : Launch} {e : Env} {s : State} {m : MethodId} {args : Array Value} {below : List Frame} {meth : Method} {c : Code} {H : Heap} {locs : List Loc} {cells slots : Nat} {Q : State → Prop} {ls : Array Slot} {D : va_G} {cI cZ : ClassId} {αX αM : Nat → Nat} {A : Nat → Prop} {b L i : Nat} {xs : Nat → Int32}
    (hx : p.tables.exec = Jvm.exec) (hb : c.code = code) (hml : c.maxLocals = 4) (hown : s.vm.findClass "RaceFinderLaw" = some m.cls) (hts : ∀ w ∈ lw_all, w.before args s = true) (hX : va_X b L xs s s.heap) (hbl : b < s.heap.size) (hbA : ¬ A b) (hL : L ≤ 320) (hi : i + 5 ≤ L)
    (hl : lv_has ls 4 [(0, .ref b), (1, .ref (αX 99)), (2, .ref (αM 99)), (3, .int (nI i))]) (hf : cells ≤ room_1.cells ∧ slots ≤ room_1.slots) (hK : va_K D vwCl [(cI, .int), (cZ, .boolean)] s) (hA : ∀ q, s.heap.size ≤ q → A q) (hLS : LSt D cI cZ αX αM A H) (hS : va_S A s.heap H locs)
    (kk : ∀ (H1 : Heap) (locs1 : List Loc), LSt D cI cZ αX αM A H1 → va_S A s.heap H1 locs1 → W p l e room_1 s m args below meth c H1 locs1 cells slots Q (F0 m 551 ls [])) : W p l e room_1 s m args below meth c H locs cells slots Q (F0 m 436 ls []) := by
  obtain ⟨B, σX, σM, hBX, hBM, hTW⟩ := hLS
  refine lv_aload_n hx hb dL_law_436 rfl (lv_at hl 1 rfl) ?_
  refine lawarg hx hb hX hbl hbA hS 1 (by omega) hL (lv_at hl 0 rfl) (lv_at hl 3 rfl) (by decide) dL_law_437 dL_law_438 dL_law_439 dL_law_440 dL_law_441 ?_
  refine lawarg hx hb hX hbl hbA hS 2 (by omega) hL (lv_at hl 0 rfl) (lv_at hl 3 rfl) (by decide) dL_law_442 dL_law_443 dL_law_444 dL_law_445 dL_law_446 ?_
  refine lawcall (ci := 0) (fd := fdX0) (α := αX) (σ := σX) (rest := []) rfl X0k_holds (vs := [(xs (i + 1)), (xs (i + 2))]) (n := 2) rfl (ans := (ansHolds B (xs (i + 1)) (xs (i + 2)))) (P := (fun u => RepX B u)) ⟨B, ⟨hBX, _, _, rfl⟩, fun x h => ⟨congrArg some (h _ _ rfl), hBX⟩⟩ hx hb hml hown hts q241 q242 q243 q34 q244 ⟨rfl, by decide +kernel, by decide +kernel, by decide +kernel⟩ ⟨by decide, by decide⟩ hf hK hA hTW hS hl.1 (Nat.le_of_ble_eq_true rfl) rfl dL_law_447 (fun uX HX locsX hBX hTW hSX => ?_)
  refine lv_aload_n hx hb dL_law_450 rfl (lv_at hl 2 rfl) ?_
  refine lawarg hx hb hX hbl hbA hSX 1 (by omega) hL (lv_at hl 0 rfl) (lv_at hl 3 rfl) (by decide) dL_law_451 dL_law_452 dL_law_453 dL_law_454 dL_law_455 ?_
  refine lawarg hx hb hX hbl hbA hSX 2 (by omega) hL (lv_at hl 0 rfl) (lv_at hl 3 rfl) (by decide) dL_law_456 dL_law_457 dL_law_458 dL_law_459 dL_law_460 ?_
  refine lawcall (ci := 1) (fd := fdX1) (α := αM) (σ := σM) (rest := [.int (ansHolds B (xs (i + 1)) (xs (i + 2)))]) rfl X1k_holds (vs := [(xs (i + 1)), (xs (i + 2))]) (n := 2) rfl (ans := (ansHolds B (xs (i + 1)) (xs (i + 2)))) (P := (fun u => RepM B u)) ⟨B, ⟨hBM, _, _, rfl⟩, fun x τ h => ⟨congrArg some (h _ _ rfl).1, (h _ _ rfl).2⟩⟩ hx hb hml hown hts q435 q436 q437 q35 q438 ⟨rfl, by decide +kernel, by decide +kernel, by decide +kernel⟩ ⟨by decide, by decide⟩ hf hK hA hTW.symm hSX hl.1 (Nat.le_of_ble_eq_true rfl) rfl dL_law_461 (fun uM HM locsM hBM hTW hSM => ?_)
  exact lv_icmp_eq (tgt := 551) hx hb dL_law_464 (by decide) (fun _ => kk _ _ ⟨B, _, _, hBX, hBM, hTW.symm⟩ hSM) (fun q => absurd rfl q)
set_option maxHeartbeats 4000000 in
theorem law_race {p : Program} {l : Launch} {e : Env} {s : State} {m : MethodId} {args : Array Value} {below : List Frame} {meth : Method} {c : Code} {H : Heap} {locs : List Loc} {cells slots : Nat} {Q : State → Prop} {ls : Array Slot} {D : va_G} {cI cZ : ClassId} {αX αM : Nat → Nat} {A : Nat → Prop} {b L i : Nat} {xs : Nat → Int32}
    (hx : p.tables.exec = Jvm.exec) (hb : c.code = code) (hml : c.maxLocals = 4) (hown : s.vm.findClass "RaceFinderLaw" = some m.cls) (hts : ∀ w ∈ lw_all, w.before args s = true) (hX : va_X b L xs s s.heap) (hbl : b < s.heap.size) (hbA : ¬ A b) (hL : L ≤ 320) (hi : i + 5 ≤ L)
    (hl : lv_has ls 4 [(0, .ref b), (1, .ref (αX 99)), (2, .ref (αM 99)), (3, .int (nI i))]) (hf : cells ≤ room_1.cells ∧ slots ≤ room_1.slots) (hK : va_K D vwCl [(cI, .int), (cZ, .boolean)] s) (hA : ∀ q, s.heap.size ≤ q → A q) (hLS : LSt D cI cZ αX αM A H) (hS : va_S A s.heap H locs)
    (kk : ∀ (H1 : Heap) (locs1 : List Loc), LSt D cI cZ αX αM A H1 → va_S A s.heap H1 locs1 → W p l e room_1 s m args below meth c H1 locs1 cells slots Q (F0 m 551 ls [])) : W p l e room_1 s m args below meth c H locs cells slots Q (F0 m 469 ls []) := by
  obtain ⟨B, σX, σM, hBX, hBM, hTW⟩ := hLS
  refine lv_aload_n hx hb dL_law_469 rfl (lv_at hl 1 rfl) ?_
  refine lawarg hx hb hX hbl hbA hS 1 (by omega) hL (lv_at hl 0 rfl) (lv_at hl 3 rfl) (by decide) dL_law_470 dL_law_471 dL_law_472 dL_law_473 dL_law_474 ?_
  refine lawarg hx hb hX hbl hbA hS 2 (by omega) hL (lv_at hl 0 rfl) (lv_at hl 3 rfl) (by decide) dL_law_475 dL_law_476 dL_law_477 dL_law_478 dL_law_479 ?_
  refine lawcall (ci := 0) (fd := fdX0) (α := αX) (σ := σX) (rest := []) rfl X0k_race (vs := [(xs (i + 1)), (xs (i + 2))]) (n := 2) rfl (ans := (ansRace B (xs (i + 1)) (xs (i + 2)))) (P := (fun u => RepX B u)) ⟨B, ⟨hBX, _, _, rfl⟩, fun x h => ⟨congrArg some (h _ _ rfl), hBX⟩⟩ hx hb hml hown hts q245 q246 q247 q34 q248 ⟨rfl, by decide +kernel, by decide +kernel, by decide +kernel⟩ ⟨by decide, by decide⟩ hf hK hA hTW hS hl.1 (Nat.le_of_ble_eq_true rfl) rfl dL_law_480 (fun uX HX locsX hBX hTW hSX => ?_)
  refine lv_aload_n hx hb dL_law_483 rfl (lv_at hl 2 rfl) ?_
  refine lawarg hx hb hX hbl hbA hSX 1 (by omega) hL (lv_at hl 0 rfl) (lv_at hl 3 rfl) (by decide) dL_law_484 dL_law_485 dL_law_486 dL_law_487 dL_law_488 ?_
  refine lawarg hx hb hX hbl hbA hSX 2 (by omega) hL (lv_at hl 0 rfl) (lv_at hl 3 rfl) (by decide) dL_law_489 dL_law_490 dL_law_491 dL_law_492 dL_law_493 ?_
  refine lawcall (ci := 1) (fd := fdX1) (α := αM) (σ := σM) (rest := [.int (ansRace B (xs (i + 1)) (xs (i + 2)))]) rfl X1k_race (vs := [(xs (i + 1)), (xs (i + 2))]) (n := 2) rfl (ans := (ansRace B (xs (i + 1)) (xs (i + 2)))) (P := (fun u => RepM B u)) ⟨B, ⟨hBM, _, _, rfl⟩, fun x τ h => ⟨congrArg some (h _ _ rfl).1, (h _ _ rfl).2⟩⟩ hx hb hml hown hts q439 q440 q441 q35 q442 ⟨rfl, by decide +kernel, by decide +kernel, by decide +kernel⟩ ⟨by decide, by decide⟩ hf hK hA hTW.symm hSX hl.1 (Nat.le_of_ble_eq_true rfl) rfl dL_law_494 (fun uM HM locsM hBM hTW hSM => ?_)
  exact lv_icmp_eq (tgt := 551) hx hb dL_law_497 (by decide) (fun _ => kk _ _ ⟨B, _, _, hBX, hBM, hTW.symm⟩ hSM) (fun q => absurd rfl q)
set_option maxHeartbeats 4000000 in
theorem law_races {p : Program} {l : Launch} {e : Env} {s : State} {m : MethodId} {args : Array Value} {below : List Frame} {meth : Method} {c : Code} {H : Heap} {locs : List Loc} {cells slots : Nat} {Q : State → Prop} {ls : Array Slot} {D : va_G} {cI cZ : ClassId} {αX αM : Nat → Nat} {A : Nat → Prop} {b L i : Nat} {xs : Nat → Int32}
    (hx : p.tables.exec = Jvm.exec) (hb : c.code = code) (hml : c.maxLocals = 4) (hown : s.vm.findClass "RaceFinderLaw" = some m.cls) (hts : ∀ w ∈ lw_all, w.before args s = true) (hX : va_X b L xs s s.heap) (hbl : b < s.heap.size) (hbA : ¬ A b) (hL : L ≤ 320) (hi : i + 5 ≤ L)
    (hl : lv_has ls 4 [(0, .ref b), (1, .ref (αX 99)), (2, .ref (αM 99)), (3, .int (nI i))]) (hf : cells ≤ room_1.cells ∧ slots ≤ room_1.slots) (hK : va_K D vwCl [(cI, .int), (cZ, .boolean)] s) (hA : ∀ q, s.heap.size ≤ q → A q) (hLS : LSt D cI cZ αX αM A H) (hS : va_S A s.heap H locs)
    (kk : ∀ (H1 : Heap) (locs1 : List Loc), LSt D cI cZ αX αM A H1 → va_S A s.heap H1 locs1 → W p l e room_1 s m args below meth c H1 locs1 cells slots Q (F0 m 551 ls [])) : W p l e room_1 s m args below meth c H locs cells slots Q (F0 m 502 ls []) := by
  obtain ⟨B, σX, σM, hBX, hBM, hTW⟩ := hLS
  refine lv_aload_n hx hb dL_law_502 rfl (lv_at hl 1 rfl) ?_
  refine lawcall (ci := 0) (fd := fdX0) (α := αX) (σ := σX) (rest := []) rfl X0k_races (vs := []) (n := 0) rfl (ans := (ansRaces B)) (P := (fun u => RepX B u)) ⟨B, ⟨hBX, rfl⟩, fun x h => ⟨congrArg some h, hBX⟩⟩ hx hb hml hown hts q261 q262 q263 q34 q264 ⟨rfl, by decide +kernel, by decide +kernel, by decide +kernel⟩ ⟨by decide, by decide⟩ hf hK hA hTW hS hl.1 (Nat.le_of_ble_eq_true rfl) rfl dL_law_503 (fun uX HX locsX hBX hTW hSX => ?_)
  refine lv_aload_n hx hb dL_law_506 rfl (lv_at hl 2 rfl) ?_
  refine lawcall (ci := 1) (fd := fdX1) (α := αM) (σ := σM) (rest := [.int (ansRaces B)]) rfl X1k_races (vs := []) (n := 0) rfl (ans := (ansRaces B)) (P := (fun u => RepM B u)) ⟨B, ⟨hBM, rfl⟩, fun x τ h => ⟨congrArg some h.1, h.2⟩⟩ hx hb hml hown hts q451 q452 q453 q35 q454 ⟨rfl, by decide +kernel, by decide +kernel, by decide +kernel⟩ ⟨by decide, by decide⟩ hf hK hA hTW.symm hSX hl.1 (Nat.le_of_ble_eq_true rfl) rfl dL_law_507 (fun uM HM locsM hBM hTW hSM => ?_)
  exact lv_icmp_eq (tgt := 551) hx hb dL_law_510 (by decide) (fun _ => kk _ _ ⟨B, _, _, hBX, hBM, hTW.symm⟩ hSM) (fun q => absurd rfl q)
set_option maxHeartbeats 4000000 in
theorem law_held {p : Program} {l : Launch} {e : Env} {s : State} {m : MethodId} {args : Array Value} {below : List Frame} {meth : Method} {c : Code} {H : Heap} {locs : List Loc} {cells slots : Nat} {Q : State → Prop} {ls : Array Slot} {D : va_G} {cI cZ : ClassId} {αX αM : Nat → Nat} {A : Nat → Prop} {b L i : Nat} {xs : Nat → Int32}
    (hx : p.tables.exec = Jvm.exec) (hb : c.code = code) (hml : c.maxLocals = 4) (hown : s.vm.findClass "RaceFinderLaw" = some m.cls) (hts : ∀ w ∈ lw_all, w.before args s = true) (hX : va_X b L xs s s.heap) (hbl : b < s.heap.size) (hbA : ¬ A b) (hL : L ≤ 320) (hi : i + 5 ≤ L)
    (hl : lv_has ls 4 [(0, .ref b), (1, .ref (αX 99)), (2, .ref (αM 99)), (3, .int (nI i))]) (hf : cells ≤ room_1.cells ∧ slots ≤ room_1.slots) (hK : va_K D vwCl [(cI, .int), (cZ, .boolean)] s) (hA : ∀ q, s.heap.size ≤ q → A q) (hLS : LSt D cI cZ αX αM A H) (hS : va_S A s.heap H locs)
    (kk : ∀ (H1 : Heap) (locs1 : List Loc), LSt D cI cZ αX αM A H1 → va_S A s.heap H1 locs1 → W p l e room_1 s m args below meth c H1 locs1 cells slots Q (F0 m 551 ls [])) : W p l e room_1 s m args below meth c H locs cells slots Q (F0 m 515 ls []) := by
  obtain ⟨B, σX, σM, hBX, hBM, hTW⟩ := hLS
  refine lv_aload_n hx hb dL_law_515 rfl (lv_at hl 1 rfl) ?_
  refine lawarg hx hb hX hbl hbA hS 1 (by omega) hL (lv_at hl 0 rfl) (lv_at hl 3 rfl) (by decide) dL_law_516 dL_law_517 dL_law_518 dL_law_519 dL_law_520 ?_
  refine lawcall (ci := 0) (fd := fdX0) (α := αX) (σ := σX) (rest := []) rfl X0k_held (vs := [(xs (i + 1))]) (n := 1) rfl (ans := (ansHeld B (xs (i + 1)))) (P := (fun u => RepX B u)) ⟨B, ⟨hBX, _, rfl⟩, fun x h => ⟨congrArg some (h _ rfl), hBX⟩⟩ hx hb hml hown hts q265 q266 q267 q34 q268 ⟨rfl, by decide +kernel, by decide +kernel, by decide +kernel⟩ ⟨by decide, by decide⟩ hf hK hA hTW hS hl.1 (Nat.le_of_ble_eq_true rfl) rfl dL_law_521 (fun uX HX locsX hBX hTW hSX => ?_)
  refine lv_aload_n hx hb dL_law_524 rfl (lv_at hl 2 rfl) ?_
  refine lawarg hx hb hX hbl hbA hSX 1 (by omega) hL (lv_at hl 0 rfl) (lv_at hl 3 rfl) (by decide) dL_law_525 dL_law_526 dL_law_527 dL_law_528 dL_law_529 ?_
  refine lawcall (ci := 1) (fd := fdX1) (α := αM) (σ := σM) (rest := [.int (ansHeld B (xs (i + 1)))]) rfl X1k_held (vs := [(xs (i + 1))]) (n := 1) rfl (ans := (ansHeld B (xs (i + 1)))) (P := (fun u => RepM B u)) ⟨B, ⟨hBM, _, rfl⟩, fun x τ h => ⟨congrArg some (h _ rfl).1, (h _ rfl).2⟩⟩ hx hb hml hown hts q456 q448 q449 q35 q450 ⟨rfl, by decide +kernel, by decide +kernel, by decide +kernel⟩ ⟨by decide, by decide⟩ hf hK hA hTW.symm hSX hl.1 (Nat.le_of_ble_eq_true rfl) rfl dL_law_530 (fun uM HM locsM hBM hTW hSM => ?_)
  exact lv_icmp_eq (tgt := 551) hx hb dL_law_533 (by decide) (fun _ => kk _ _ ⟨B, _, _, hBX, hBM, hTW.symm⟩ hSM) (fun q => absurd rfl q)
set_option maxHeartbeats 4000000 in
theorem law_danger {p : Program} {l : Launch} {e : Env} {s : State} {m : MethodId} {args : Array Value} {below : List Frame} {meth : Method} {c : Code} {H : Heap} {locs : List Loc} {cells slots : Nat} {Q : State → Prop} {ls : Array Slot} {D : va_G} {cI cZ : ClassId} {αX αM : Nat → Nat} {A : Nat → Prop} {b L i : Nat} {xs : Nat → Int32}
    (hx : p.tables.exec = Jvm.exec) (hb : c.code = code) (hml : c.maxLocals = 4) (hown : s.vm.findClass "RaceFinderLaw" = some m.cls) (hts : ∀ w ∈ lw_all, w.before args s = true) (hX : va_X b L xs s s.heap) (hbl : b < s.heap.size) (hbA : ¬ A b) (hL : L ≤ 320) (hi : i + 5 ≤ L)
    (hl : lv_has ls 4 [(0, .ref b), (1, .ref (αX 99)), (2, .ref (αM 99)), (3, .int (nI i))]) (hf : cells ≤ room_1.cells ∧ slots ≤ room_1.slots) (hK : va_K D vwCl [(cI, .int), (cZ, .boolean)] s) (hA : ∀ q, s.heap.size ≤ q → A q) (hLS : LSt D cI cZ αX αM A H) (hS : va_S A s.heap H locs)
    (kk : ∀ (H1 : Heap) (locs1 : List Loc), LSt D cI cZ αX αM A H1 → va_S A s.heap H1 locs1 → W p l e room_1 s m args below meth c H1 locs1 cells slots Q (F0 m 551 ls [])) : W p l e room_1 s m args below meth c H locs cells slots Q (F0 m 538 ls []) := by
  obtain ⟨B, σX, σM, hBX, hBM, hTW⟩ := hLS
  refine lv_aload_n hx hb dL_law_538 rfl (lv_at hl 1 rfl) ?_
  refine lawcall (ci := 0) (fd := fdX0) (α := αX) (σ := σX) (rest := []) rfl X0k_danger (vs := []) (n := 0) rfl (ans := (dngm B)) (P := (fun u => RepX B u)) ⟨B, ⟨hBX, rfl⟩, fun x τ h => ⟨congrArg some h.1, h.2⟩⟩ hx hb hml hown hts q269 q270 q271 q34 q272 ⟨rfl, by decide +kernel, by decide +kernel, by decide +kernel⟩ ⟨by decide, by decide⟩ hf hK hA hTW hS hl.1 (Nat.le_of_ble_eq_true rfl) rfl dL_law_539 (fun uX HX locsX hBX hTW hSX => ?_)
  refine lv_aload_n hx hb dL_law_542 rfl (lv_at hl 2 rfl) ?_
  refine lawcall (ci := 1) (fd := fdX1) (α := αM) (σ := σM) (rest := [.int (dngm B)]) rfl X1k_danger (vs := []) (n := 0) rfl (ans := (dngm B)) (P := (fun u => RepM B u)) ⟨B, ⟨hBM, rfl⟩, fun x τ h => ⟨congrArg some h.1, h.2⟩⟩ hx hb hml hown hts q457 q458 q459 q35 q460 ⟨rfl, by decide +kernel, by decide +kernel, by decide +kernel⟩ ⟨by decide, by decide⟩ hf hK hA hTW.symm hSX hl.1 (Nat.le_of_ble_eq_true rfl) rfl dL_law_543 (fun uM HM locsM hBM hTW hSM => ?_)
  exact lv_icmp_eq (tgt := 551) hx hb dL_law_546 (by decide) (fun _ => kk _ _ ⟨B, _, _, hBX, hBM, hTW.symm⟩ hSM) (fun q => absurd rfl q)
end
section
set_option maxRecDepth 100000
/-! THE CLAIM OUT OF ONE WALK OF THE LAW'S BODY. Your part is whole_start (and what it stands on); all else here is the same for every law, but numbers. -/
def R_law : String := "RaceFinderLaw"
def lw_P (b : Addr) (xs : List Int32) (args : Array Value) (s : State) : Prop := args = #[.ref b] ∧ s.IntsAt b xs ∧ xs.length ≤ 320 ∧ (Jvm.Cond.and given_1 narrow_1).before args s = true
def lw_Q (_ : Array Value) (s : State) (o : Outcome) (t : State) : Prop := o = .returned (some (.int 1)) ∧ Framed s o t [] 600000 7290000
def lw_Z (below : List Frame) (a : Array Value) (s : State) : State → Prop := fun t => ∃ o, t.status = .running ∧ Ended t below o ∧ lw_Q a s o t
/-- the law's own end, with 1 on the stack, nothing written that was there before, its room as the claim has it -/
theorem lw_ret {p : Program} {l : Launch} {e : Env} {s : State} {m : MethodId} {below : List Frame} {meth : Method} {c : Code} {b : Nat} (hx : p.tables.exec = Jvm.exec) (hb : c.code = code) (hr : meth.sig.returnType = ret) (hlocks : meth.locks = false) {pc : Nat} {H : Heap} {ls : Array Slot} (hdg : decode code pc = .ok (.ireturn, 1)) : W p l e room_1 s m #[Value.ref b] below meth c H [] 600000 7290000 (lw_Z below #[Value.ref b] s) (F0 m pc ls [.int 1]) := by
  intro T hT X
  obtain ⟨fs, hret, hrun, hended, hW, hframe⟩ := X.leave (v := some (.int 1)) (hlocks := hlocks) (fun h => by rw [hr] at h; cases h)
  have hmeth' : T.vm.method? m = some meth := X.method'
  refine ⟨T.setFrames fs, ?_, .returned (some (.int 1)), hrun, hended, rfl, ⟨_, rfl⟩, hW, hframe⟩
  jvm_step X.here [X.here.top, hx, hb, hdg, hmeth', hr, ret, narrow_b1]
  (try refine ⟨rfl, ?_⟩); (try refine ⟨rfl, ?_⟩)
  first | (intro acts; rw [hret _ acts rfl rfl rfl]) | rw [hret _ _ rfl rfl rfl]
  exact Steps.refl _
/-- what holds at the law's entry: the machine, the code, the tables' words (any of lw_tbl by 'hts w (by decide +kernel)'), the script of L ints xs at the cell b, what the Statement gives of the start (any of its parts by flat_of_before) -/
def lw_At (p : Program) (s : State) (m : MethodId) (meth : Method) (c : Code) (b L : Nat) (xs : Nat → Int32) : Prop :=
  p.tables.exec = Jvm.exec ∧ c.code = code ∧ meth.sig.returnType = ret ∧ c.maxLocals = 4 ∧ s.vm.findClass R_law = some m.cls ∧ (∀ w ∈ lw_tbl, w.before #[Value.ref b] s = true) ∧ va_X b L xs s s.heap ∧ b < s.heap.size ∧ meth.locks = false ∧ (Jvm.Cond.and given_1 narrow_1).before #[Value.ref b] s = true
theorem law_ix {L i : Nat} (hL : L ≤ 320) (hi : i ≤ 330) (h : ¬ Int32.ofNat L - 5 < nI i) : i + 5 ≤ L := by
  have e1 : (Int32.ofNat L).toInt = (L : Int) := nI_toInt (show L < 2 ^ 31 by omega)
  have e2 : (5 : Int32).toInt = 5 := by decide
  have e3 : (Int32.ofNat L - 5).toInt = (L : Int) - 5 := by
    rw [fb_subI (by rw [e1, e2]; omega) (by rw [e1, e2]; omega), e1, e2]
  rw [fa_lt, e3, nI_toInt (by omega)] at h
  omega
set_option maxHeartbeats 4000000 in
theorem law_loop {p : Program} {l : Launch} {e : Env} {s : State} {m : MethodId} {below : List Frame} {meth : Method} {c : Code} {cells slots : Nat} {D : va_G} {cI cZ : ClassId} {αX αM : Nat → Nat} {A : Nat → Prop} {b L : Nat} {xs : Nat → Int32}
    (hx : p.tables.exec = Jvm.exec) (hb : c.code = code) (hr : meth.sig.returnType = ret) (hlocks : meth.locks = false) (hml : c.maxLocals = 4) (hown : s.vm.findClass "RaceFinderLaw" = some m.cls) (hts : ∀ w ∈ lw_all, w.before #[Value.ref b] s = true) (hX : va_X b L xs s s.heap) (hbl : b < s.heap.size) (hbA : ¬ A b) (hL : L ≤ 320)
    (hf : cells ≤ room_1.cells ∧ slots ≤ room_1.slots) (hK : va_K D vwCl [(cI, .int), (cZ, .boolean)] s) (hA : ∀ q, s.heap.size ≤ q → A q) (hA2 : ∀ q, A q → s.heap.size ≤ q) :
    ∀ (n i : Nat), L < i + n → i ≤ 325 → ∀ (H : Heap) (locs : List Loc) (ls : Array Slot), LSt D cI cZ αX αM A H → va_S A s.heap H locs → lv_has ls 4 [(0, .ref b), (1, .ref (αX 99)), (2, .ref (αM 99)), (3, .int (nI i))] → W p l e room_1 s m #[Value.ref b] below meth c H locs cells slots (lw_Z below #[Value.ref b] s) (F0 m 18 ls []) := by
  intro n
  induction n with
  | zero =>
    intro i h1 h2 H locs ls hLS hS hl
    refine lv_iload_n hx hb dL_law_18 rfl (lv_at hl 3 rfl) ?_
    refine lv_aload_n hx hb dL_law_19 rfl (lv_at hl 0 rfl) ?_
    refine va_slen hx hb hX hbl hbA hS dL_law_20 ?_
    refine lv_iconst (v := 5) hx hb dL_law_21 (by decide) ?_
    refine lv_isub hx hb dL_law_22 ?_
    refine lv_icmp_gt (tgt := 557) hx hb dL_law_23 (by decide) (fun q => ?_) (fun q => ?_)
    · refine va_forget (fun q hq => hA2 _ (hS.2.2 q hq)) ?_
      refine lv_iconst (v := 1) hx hb dL_law_557 (by decide) ?_
      refine W.widen (k := 600000) (n := 7290000) hf.1 hf.2 ?_
      exact lw_ret hx hb hr hlocks dL_law_558
    · have := law_ix hL (by omega) q
      omega
  | succ n ih =>
    intro i h1 h2 H locs ls hLS hS hl
    refine lv_iload_n hx hb dL_law_18 rfl (lv_at hl 3 rfl) ?_
    refine lv_aload_n hx hb dL_law_19 rfl (lv_at hl 0 rfl) ?_
    refine va_slen hx hb hX hbl hbA hS dL_law_20 ?_
    refine lv_iconst (v := 5) hx hb dL_law_21 (by decide) ?_
    refine lv_isub hx hb dL_law_22 ?_
    refine lv_icmp_gt (tgt := 557) hx hb dL_law_23 (by decide) (fun q => ?_) (fun q => ?_)
    · refine va_forget (fun q hq => hA2 _ (hS.2.2 q hq)) ?_
      refine lv_iconst (v := 1) hx hb dL_law_557 (by decide) ?_
      refine W.widen (k := 600000) (n := 7290000) hf.1 hf.2 ?_
      exact lw_ret hx hb hr hlocks dL_law_558
    have hi := law_ix hL (by omega) q
    have nxt : ∀ (H1 : Heap) (locs1 : List Loc), LSt D cI cZ αX αM A H1 → va_S A s.heap H1 locs1 → W p l e room_1 s m #[Value.ref b] below meth c H1 locs1 cells slots (lw_Z below #[Value.ref b] s) (F0 m 551 ls []) := by
      intro H1 locs1 hLS hS
      refine lv_iinc (v := nI (i + 5)) (lv' := [(3, .int (nI (i + 5))), (0, .ref b), (1, .ref (αX 99)), (2, .ref (αM 99))]) hx hb dL_law_551 hl (k := 3) rfl (nI_add i 5) (by decide) rfl (fun ls hl => ?_)
      refine lv_goto (tgt := 18) hx hb dL_law_554 (by decide) ?_
      exact ih (i + 5) (by omega) (by omega) H1 locs1 ls hLS hS (lv_sub hl [1, 2, 3, 0] rfl)
    refine lv_aload_n hx hb dL_law_26 rfl (lv_at hl 0 rfl) ?_
    refine lv_iload_n hx hb dL_law_27 rfl (lv_at hl 3 rfl) ?_
    refine va_sld hx hb hX hbl hbA hS (zi_in (show i < L by omega) (by omega)) dL_law_28 ?_
    refine lv_bipush (v := 15) hx hb dL_law_29 (by decide) ?_
    refine lv_iand hx hb dL_law_31 ?_
    obtain ⟨k, hk, ek⟩ := pk_andE (xs (nI i).toNatClampNeg) (m := 15) 4 (by decide +kernel)
    rw [ek]
    rcases (show k = 0 ∨ k = 1 ∨ k = 2 ∨ k = 3 ∨ k = 4 ∨ k = 5 ∨ k = 6 ∨ k = 7 ∨ k = 8 ∨ k = 9 ∨ k = 10 ∨ k = 11 ∨ k = 12 ∨ 12 < k by omega) with rfl | rfl | rfl | rfl | rfl | rfl | rfl | rfl | rfl | rfl | rfl | rfl | rfl | hk2
    · refine lv_tableIn (tgt := 100) (off := 68) hx hb dL_law_32 (by decide) (by decide) (by decide) (by decide) ?_
      exact law_alloc hx hb hml hown hts hX hbl hbA hL hi hl hf hK hA hLS hS nxt
    · refine lv_tableIn (tgt := 133) (off := 101) hx hb dL_law_32 (by decide) (by decide) (by decide) (by decide) ?_
      exact law_copy hx hb hml hown hts hX hbl hbA hL hi hl hf hK hA hLS hS nxt
    · refine lv_tableIn (tgt := 166) (off := 134) hx hb dL_law_32 (by decide) (by decide) (by decide) (by decide) ?_
      exact law_load hx hb hml hown hts hX hbl hbA hL hi hl hf hK hA hLS hS nxt
    · refine lv_tableIn (tgt := 209) (off := 177) hx hb dL_law_32 (by decide) (by decide) (by decide) (by decide) ?_
      exact law_store hx hb hml hown hts hX hbl hbA hL hi hl hf hK hA hLS hS nxt
    · refine lv_tableIn (tgt := 252) (off := 220) hx hb dL_law_32 (by decide) (by decide) (by decide) (by decide) ?_
      exact law_once hx hb hml hown hts hX hbl hbA hL hi hl hf hK hA hLS hS nxt
    · refine lv_tableIn (tgt := 301) (off := 269) hx hb dL_law_32 (by decide) (by decide) (by decide) (by decide) ?_
      exact law_region hx hb hml hown hts hX hbl hbA hL hi hl hf hK hA hLS hS nxt
    · refine lv_tableIn (tgt := 344) (off := 312) hx hb dL_law_32 (by decide) (by decide) (by decide) (by decide) ?_
      exact law_access hx hb hml hown hts hX hbl hbA hL hi hl hf hK hA hLS hS nxt
    · refine lv_tableIn (tgt := 413) (off := 381) hx hb dL_law_32 (by decide) (by decide) (by decide) (by decide) ?_
      exact law_pointsTo hx hb hml hown hts hX hbl hbA hL hi hl hf hK hA hLS hS nxt
    · refine lv_tableIn (tgt := 436) (off := 404) hx hb dL_law_32 (by decide) (by decide) (by decide) (by decide) ?_
      exact law_holds hx hb hml hown hts hX hbl hbA hL hi hl hf hK hA hLS hS nxt
    · refine lv_tableIn (tgt := 469) (off := 437) hx hb dL_law_32 (by decide) (by decide) (by decide) (by decide) ?_
      exact law_race hx hb hml hown hts hX hbl hbA hL hi hl hf hK hA hLS hS nxt
    · refine lv_tableIn (tgt := 502) (off := 470) hx hb dL_law_32 (by decide) (by decide) (by decide) (by decide) ?_
      exact law_races hx hb hml hown hts hX hbl hbA hL hi hl hf hK hA hLS hS nxt
    · refine lv_tableIn (tgt := 515) (off := 483) hx hb dL_law_32 (by decide) (by decide) (by decide) (by decide) ?_
      exact law_held hx hb hml hown hts hX hbl hbA hL hi hl hf hK hA hLS hS nxt
    · refine lv_tableIn (tgt := 538) (off := 506) hx hb dL_law_32 (by decide) (by decide) (by decide) (by decide) ?_
      exact law_danger hx hb hml hown hts hX hbl hbA hL hi hl hf hK hA hLS hS nxt
    · refine lv_tableOut (tgt := 551) hx hb dL_law_32 (Or.inr ?_) (by decide) (nxt H locs hLS hS)
      rw [nI_toInt (by omega)]
      omega
theorem dv_X0 : ∀ j, j < 33 → defaultValue (tyX0 j) = vp_V (fz fdX0) j := by decide +kernel
theorem dv_X1 : ∀ j, j < 25 → defaultValue (tyX1 j) = vp_V (fz fdX1) j := by decide +kernel
set_option maxHeartbeats 8000000 in
theorem whole_start {p : Program} {e : Env} {s : State} {m : MethodId} {below : List Frame} {meth : Method} {c : Code} (l : Launch) {b L : Nat} {xs : Nat → Int32} (hL : L ≤ 320) (C0 : lw_At p s m meth c b L xs) : W p l e room_1 s m #[Value.ref b] below meth c s.heap [] 0 0 (lw_Z below #[Value.ref b] s) (entryFrame m ([Value.ref b] : List Value).toArray 4) := by
  obtain ⟨hx, hb, hr, hml, hown, hts0, hX, hbl, hlocks, hgv⟩ := C0
  have hts : ∀ w ∈ lw_all, w.before #[Value.ref b] s = true := fun w h => hts0 w (lw_all_tbl h)
  have hown : s.vm.findClass "RaceFinderLaw" = some m.cls := hown
  obtain ⟨c0_, iS0, hKn0⟩ := u_known (C := RX0) (T := TX0) (N := 33) (n := 33) hts in_X0 (hts _ q37)
  obtain ⟨c1_, iS1, hKn1⟩ := u_known (C := RX1) (T := TX1) (N := 25) (n := 25) hts in_X1 (hts _ q294)
  obtain ⟨cI, kI, compI, i1, i2, i3⟩ := Cond.arrayClass_spec (hts _ q144)
  obtain ⟨cZ, kZ, compZ, z1, z2, z3⟩ := Cond.arrayClass_spec (hts _ q145)
  have hKD : ∃ D : va_G, va_K D vwCl [(cI, .int), (cZ, .boolean)] s := by
    refine ⟨(fun k => if k = 0 then c0_ else c1_, fun k => if k = 0 then iS0 else iS1), fun k q hq => ?_, fun k q hk => ?_⟩
    · match k, hq with
      | 0, hq => cases hq; exact hKn0
      | 1, hq => cases hq; exact hKn1
      | k + 2, hq => simp [vwCl] at hq
    · match k, hk with
      | 0, hk => cases hk; exact ⟨fun n z => ⟨fun k h => (by cases h), kI, i2, compI, i3⟩, i1⟩
      | 1, hk => cases hk; exact ⟨fun n z => ⟨fun k h => (by cases h), kZ, z2, compZ, z3⟩, z1⟩
      | k + 2, hk => simp at hk
  obtain ⟨D, hK⟩ := hKD
  obtain ⟨A, hAe⟩ : ∃ A : Nat → Prop, A = fun q => s.heap.size ≤ q := ⟨_, rfl⟩
  have hA : ∀ q : Nat, s.heap.size ≤ q → A q := fun q h => by rw [hAe]; exact h
  have hA2 : ∀ q : Nat, A q → s.heap.size ≤ q := fun q h => by rw [hAe] at h; exact h
  have hbA : ¬ A b := fun h => by have := hA2 b h; omega
  have hl := lv_entry ([.ref b]) (n := 4) (Nat.le_of_ble_eq_true rfl)
  rw [lg_entry_eq]
  generalize (lg_sl ([.ref b]) ++ List.replicate (4 - (lg_sl ([.ref b])).length) Slot.unset).toArray = ls at hl ⊢
  have hl : lv_has ls 4 [(0, .ref b)] := hl
  have hP : va_P D vwCl [] s.heap := fun k q h => by simp at h
  have hD : va_D A [] := ⟨fun i j p q h => by simp at h, fun k q h => by simp at h⟩
  have hS : va_S A s.heap s.heap [] := va_S.rf
  refine va_new (ci := 0) (fs := fz fdX0) (C := RX0) (T := TX0) (N := 33) hx hb hts in_X0 tyX0 tyX0_ok hown (hts _ q36) (hts _ q37) (hts _ q34) hK hP hD hS hA rfl dv_X0 (Nat.le_of_ble_eq_true rfl) (Nat.le_of_ble_eq_true rfl) dL_law_0 (fun h0 H hP hD hS => ?_)
  refine lv_dup hx hb dL_law_3 rfl ?_
  have hW0 : TW D A [(h0, .inr (0, fz fdX0))] [] H := TW.app (w1 := [(h0, .inr (0, fz fdX0))]) (w2 := []) hP hD
  have hFc := hW0.free hA hS
  refine va_callv (va_runI (As := []) (rest := [.ref h0]) ⟨hx, hb, hml, hown, hts⟩ (X0k_init l D cI cZ h0 H.size) (cwI 0 hts (lw_meth q40) rfl rfl rfl (hts _ q34) (hts _ q38) (hts _ q39) rfl (by decide +kernel) ⟨Nat.le_of_ble_eq_true rfl, Nat.le_of_ble_eq_true rfl⟩) ⟨fun a U g mk q => by obtain ⟨q0, q1, qP, qK, qD⟩ := q; exact ⟨q0, q1, qP, va_K.moved (u := U) (U := U.calling g mk a) (Vm.Alike.refl U.vm) qK, qD⟩, fun U hU hW => ⟨rfl, by rw [hU], by rw [hU]; exact hW0.1, va_K.moved hW.alike hK, hW0.2.2.1.weaken (fun _ _ _ _ => trivial)⟩⟩ rfl rfl hl.1 rfl (lv_room (Nat.le_of_ble_eq_true rfl)) dL_law_4 ⟨Nat.le_of_ble_eq_true rfl, Nat.le_of_ble_eq_true rfl⟩) hS (fun q _ h => hFc q h) hFc (fun u t H1 locs1 ht hvm hw1 hB hz1 hk1 hS => ?_)
  obtain ⟨αX, σX⟩ := u
  obtain ⟨hP1, hK1, hD1⟩ := hB
  rw [ht] at hP1
  obtain ⟨e99X, hIX⟩ := hw1
  dsimp only at hP1 hD1 e99X hIX
  have hW1 := hW0.call hFc hk1 hP1 hD1
  refine lv_astore_n (lv' := [(1, .ref h0), (0, .ref b)]) hx hb dL_law_7 rfl hl (by decide) rfl (fun ls hl => ?_)
  refine va_new (ci := 1) (fs := fz fdX1) (C := RX1) (T := TX1) (N := 25) hx hb hts in_X1 tyX1 tyX1_ok hown (hts _ q293) (hts _ q294) (hts _ q35) hK hW1.1 hW1.2.2.1 hS hA rfl dv_X1 (Nat.le_of_ble_eq_true rfl) (Nat.le_of_ble_eq_true rfl) dL_law_8 (fun h1 H2 hP2 hD2 hS => ?_)
  refine lv_dup hx hb dL_law_11 rfl ?_
  have hW2 : TW D A [(h1, .inr (1, fz fdX1))] (mW 0 fdX0 cI cZ αX σX) H2 := (TW.app hP2 hD2).symm
  have hFc := hW2.free hA hS
  refine va_callv (va_runI (As := []) (rest := [.ref h1]) ⟨hx, hb, hml, hown, hts⟩ (X1k_init l D cI cZ h1 H2.size) (cwI 0 hts (lw_meth q297) rfl rfl rfl (hts _ q35) (hts _ q295) (hts _ q296) rfl (by decide +kernel) ⟨Nat.le_of_ble_eq_true rfl, Nat.le_of_ble_eq_true rfl⟩) ⟨fun a U g mk q => by obtain ⟨q0, q1, qP, qK, qD⟩ := q; exact ⟨q0, q1, qP, va_K.moved (u := U) (U := U.calling g mk a) (Vm.Alike.refl U.vm) qK, qD⟩, fun U hU hW => ⟨rfl, by rw [hU], by rw [hU]; exact hW2.1, va_K.moved hW.alike hK, hW2.2.2.1.weaken (fun _ _ _ _ => trivial)⟩⟩ rfl rfl hl.1 rfl (lv_room (Nat.le_of_ble_eq_true rfl)) dL_law_12 ⟨Nat.le_of_ble_eq_true rfl, Nat.le_of_ble_eq_true rfl⟩) hS (fun q _ h => hFc q h) hFc (fun u t H3 locs3 ht hvm hw1 hB hz1 hk1 hS => ?_)
  obtain ⟨αM, σM⟩ := u
  obtain ⟨hP3, hK3, hD3⟩ := hB
  rw [ht] at hP3
  obtain ⟨e99M, hIM⟩ := hw1
  dsimp only at hP3 hD3 e99M hIM
  have hW3 := (hW2.call hFc hk1 hP3 hD3).symm
  refine lv_astore_n (lv' := [(2, .ref h1), (1, .ref h0), (0, .ref b)]) hx hb dL_law_15 rfl hl (by decide) rfl (fun ls hl => ?_)
  refine lv_iconst (v := nI 0) hx hb dL_law_16 (by decide) ?_
  refine lv_istore_n (lv' := [(3, .int (nI 0)), (2, .ref h1), (1, .ref h0), (0, .ref b)]) hx hb dL_law_17 rfl hl (by decide) rfl (fun ls hl => ?_)
  have hl : lv_has ls 4 [(0, .ref b), (1, .ref (αX 99)), (2, .ref (αM 99)), (3, .int (nI 0))] := by
    rw [e99X, e99M]
    exact lv_sub hl [3, 2, 1, 0] rfl
  exact law_loop hx hb hr hlocks hml hown hts hX hbl hbA hL ⟨Nat.le_of_ble_eq_true rfl, Nat.le_of_ble_eq_true rfl⟩ hK hA hA2 (L + 1) 0 (by omega) (by omega) H3 locs3 ls ⟨A0, σX, σM, hIX.rep, hIM.rep, hW3⟩ hS hl
set_option maxHeartbeats 4000000 in
theorem lw_walk (l : Launch) (b : Addr) (xs : List Int32) : MetFree l x (headSpec (Jvm.Cond.code x code maxLocals ret :: tables_1) room_1) (lw_P b xs) (fun _ _ _ _ _ => True) lw_Q := by
  refine MetFree.of_bodyS (code := code) (maxLocals := maxLocals) (ret := ret) (by decide) ?_ ?_
  · intro args s m h hn
    obtain ⟨meth, c, h1, h2, h3, h4, h5, h6, -, -⟩ := Cond.code_spec hn (atoms_spec (ws := Jvm.Cond.code x code maxLocals ret :: tables_1) h _ List.mem_cons_self)
    exact ⟨meth, c, h1, h2, h3, h4, h5, h6⟩
  · intro p e s m args below meth c s₁ B hml0 hP _
    obtain ⟨rfl, hx, hbd, hgv⟩ := hP
    obtain ⟨scr, harrAt, hlist, hof, hsmall⟩ := hx
    obtain ⟨hcb, hkn, -, -⟩ := State.arrayAt?_spec harrAt
    have hown : s.vm.findClass R_law = some m.cls := findClass_of_methodNamed B.named
    have hts0 : ∀ c ∈ (Jvm.Cond.code x code maxLocals ret :: tables_1), c.before #[Value.ref b] s = true := atoms_spec (ws := Jvm.Cond.code x code maxLocals ret :: tables_1) B.pre
    have hts : ∀ w ∈ lw_tbl, w.before #[Value.ref b] s = true := k2_hts_sels lw_privs (fun w hw => hts0 w (List.mem_cons_of_mem _ hw)) lw_privs_ok
    have hml : c.maxLocals = 4 := B.maxLocals_eq (hts0 _ List.mem_cons_self)
    have X₀ : Stand p l e room_1 s m #[Value.ref b] below meth c s₁ [] 0 0 := Stand.of_body B
    have hh0 : s₁.heap = s.heap := by rw [B.state]; rfl
    have hsz : scr.slots.size = xs.length := by rw [← Array.length_toList, hlist, List.length_map]
    have hval : ∀ j : Nat, j < xs.length → scr.slots[j]? = some (.int (xs.getD j 0)) := fun j hj => by
      rw [← Array.getElem?_toList, hlist]
      simp [hj]
    have hbl : b < s.heap.size := (Array.getElem?_eq_some_iff.mp hcb).1
    have hX : va_X b xs.length (fun j => xs.getD j 0) s s.heap := ⟨scr, hcb, hof, hkn, hsz, hval⟩
    have K : W p l e room_1 s m #[Value.ref b] below meth c s₁.heap [] 0 0 (lw_Z below #[Value.ref b] s) (entryFrame m ([Value.ref b] : List Value).toArray 4) := by
      rw [hh0]
      exact whole_start l hbd ⟨B.exec, B.bytes, B.returns, hml, hown, hts, hX, hbl, B.notSynchronized, hgv⟩
    obtain ⟨t, a1, o, b1, b2, b3⟩ := K s₁ rfl X₀
    exact ⟨t, o, a1, b1, b2, b3⟩
theorem lw_pre_spec {args : Array Value} {s : State} (h : (Jvm.Cond.and given_1 narrow_1).before args s = true) (hr : rest_1_c.before args s = true) : ∃ (b : Addr) (xs : List Int32), lw_P b xs args s := by
  have hs := flat_of_before _ h
  have hq := flat_of_before _ hr
  have hc : (Cond.count 1).before args s = true := hs _ (by decide +kernel)
  have harr : (Cond.arrayOf (.arg 0) .int).before args s = true := hs _ (by decide +kernel)
  have hle : (Cond.le (.length (.arg 0)) (.int 320)).before args s = true := hs _ (by decide +kernel)
  have hlen : (Cond.isInt (.length (.arg 0))).before args s = true := hq _ (by decide +kernel)
  have hall : (Cond.all (.arg 0) (.isInt (.elem (.arg 0) (.index 0)))).before args s = true := hq _ (by decide +kernel)
  obtain ⟨b, xs, hb, hx⟩ := State.ints_of_pre rfl harr hlen hall
  have hsm : xs.length < 2 ^ 31 := hx.choose_spec.2.2.2
  have hev : (Term.length (.arg 0)).eval args s none [] s = some (.int xs.length.toInt32) := hx.length_eval hb
  have hv := Cond.le_ints hev (show (Term.int 320).eval args s none [] s = some (.int 320) from rfl)
  have hd : xs.length.toInt32 ≤ 320 := by
    simpa [Cond.before, Cond.holds, hv] using hle
  have hN : xs.length ≤ 320 := (Int32.ofNat_le_ofNat hsm (by decide)).mp (show Int32.ofNat xs.length ≤ Int32.ofNat 320 from hd)
  exact ⟨b, xs, Cond.one_arg hc (show args[0]? = some (.ref b) from hb), hx, hN, h⟩
theorem lw_comes (l : Launch) : Comes l x (Jvm.Cond.code x code maxLocals ret :: tables_1) room_1 (fun tb e args s => Calls_1 tb e args s ∧ rest_1 tb e args s ∧ Pre_1 tb e args s)
    (fun _ _ args s o t => lw_Q args s o t) := by
  intro p e ha hc hk s m args below hf hfit hheap happ hpre
  obtain ⟨b, xs, hP⟩ := lw_pre_spec hpre.2.2 hpre.2.1
  obtain ⟨k, o, h1, h2, h3, hQ⟩ := lw_walk l b xs p e ha hc hk s m args below hf ((Spec.applies_iff_loose hf).mp happ).1 hP trivial
  exact ⟨k, o, h1, h2, h3, hQ⟩
theorem lw_frame {s t : State} {o : Outcome} {args : Array Value} (h : Framed s o t [] 600000 7290000) :
    Framed s o t (fieldLocs frame_1_writes args s ++ arrayLocs frame_1_arrays args s ++ staticLocs frame_1_statics s) 600000 7290000 := h
theorem lw_limb (L : Cond) (hL : ∀ (args : Array Value) (s t : State), L.after args s (.returned (some (.int 1))) t = true) :
    ArmFor flags0 classFile x code maxLocals ret World_1 tables_1 room_1 Calls_1 rest_1 Pre_1
      (fun tb e a s o t => postC L tb e a s o t ∧ Framed s o t (fieldLocs frame_1_writes a s ++ arrayLocs frame_1_arrays a s ++ staticLocs frame_1_statics s) 600000 7290000) := by
  intro l _ _ _ p e ha hc hk s m args below hf hfit hheap happ hpre
  obtain ⟨k, o, h1, h2, h3, rfl, hF⟩ := lw_comes l p e ha hc hk s m args below hf hfit hheap happ hpre
  exact ⟨k, _, h1, h2, h3, hL args s _, lw_frame hF⟩
theorem i_vc : Claimed_1_1 ∧ Claimed_1_2 := ⟨lw_limb limb_1_1 (fun args s t => by simp [limb_1_1, Cond.after, Cond.holds, Cond.value]), lw_limb limb_1_2 (fun args s t => Cond.after_iff.mpr (by
  first | (rw [show limb_1_2 = Cond.eq .result (.int 1) from rfl, Cond.eq_ints (x := 1) (y := 1) rfl rfl]; simp; done) | (simp [limb_1_2, Cond.value, Term.eval]; done)))⟩
end
