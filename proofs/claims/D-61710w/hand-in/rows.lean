section
-- ===== PART A: goes FIRST, ahead of the names: the tables' words, and 'selects' of the private methods out of them =====
/-- a private method of a class that the tables say can be made, by its rows of tables_1 -/
def lw_okq (q : MethodName × Nat) : Prop := (q.1.cls ≠ "java/lang/invoke/MethodHandle" ∧ q.1.cls ≠ "java/lang/invoke/VarHandle") ∧ Cond.instantiable q.1.cls q.2 ∈ tables_1 ∧ Cond.privateMethod q.1 ∈ tables_1 ∧ Cond.instanceMethod q.1 ∈ tables_1
set_option maxRecDepth 100000
theorem lw_t1 {w : Cond} (h : w ∈ tables_1_1) : w ∈ tables_1 := List.mem_append_left _ h
theorem lw_t2 {w : Cond} (h : w ∈ tables_1_2) : w ∈ tables_1 := List.mem_append_right _ h
theorem lw_p0 : lw_okq (⟨"GoBoard", "attempt", "(II)I"⟩, 13) := ⟨⟨by decide +kernel, by decide +kernel⟩, lw_t1 (List.mem_of_getElem? (i := 4) rfl), lw_t1 (List.mem_of_getElem? (i := 59) rfl), lw_t1 (List.mem_of_getElem? (i := 60) rfl)⟩
theorem lw_p1 : lw_okq (⟨"GoBoard", "badPlayer", "(I)Z"⟩, 13) := ⟨⟨by decide +kernel, by decide +kernel⟩, lw_t1 (List.mem_of_getElem? (i := 4) rfl), lw_t1 (List.mem_of_getElem? (i := 63) rfl), lw_t1 (List.mem_of_getElem? (i := 64) rfl)⟩
theorem lw_p2 : lw_okq (⟨"GoBoard", "badPoint", "(I)Z"⟩, 13) := ⟨⟨by decide +kernel, by decide +kernel⟩, lw_t1 (List.mem_of_getElem? (i := 4) rfl), lw_t1 (List.mem_of_getElem? (i := 67) rfl), lw_t1 (List.mem_of_getElem? (i := 68) rfl)⟩
theorem lw_p3 : lw_okq (⟨"GoBoard", "stones", "(I)J"⟩, 13) := ⟨⟨by decide +kernel, by decide +kernel⟩, lw_t1 (List.mem_of_getElem? (i := 4) rfl), lw_t1 (List.mem_of_getElem? (i := 71) rfl), lw_t1 (List.mem_of_getElem? (i := 72) rfl)⟩
theorem lw_p4 : lw_okq (⟨"GoBoard", "dead", "(JJ)J"⟩, 13) := ⟨⟨by decide +kernel, by decide +kernel⟩, lw_t1 (List.mem_of_getElem? (i := 4) rfl), lw_t1 (List.mem_of_getElem? (i := 75) rfl), lw_t1 (List.mem_of_getElem? (i := 76) rfl)⟩
theorem lw_p5 : lw_okq (⟨"GoBoard", "around", "(J)J"⟩, 13) := ⟨⟨by decide +kernel, by decide +kernel⟩, lw_t1 (List.mem_of_getElem? (i := 4) rfl), lw_t1 (List.mem_of_getElem? (i := 79) rfl), lw_t1 (List.mem_of_getElem? (i := 80) rfl)⟩
theorem lw_p6 : lw_okq (⟨"GoBoard", "grown", "(JJ)J"⟩, 13) := ⟨⟨by decide +kernel, by decide +kernel⟩, lw_t1 (List.mem_of_getElem? (i := 4) rfl), lw_t1 (List.mem_of_getElem? (i := 83) rfl), lw_t1 (List.mem_of_getElem? (i := 84) rfl)⟩
theorem lw_p7 : lw_okq (⟨"GoBoard", "sizeOf", "(J)I"⟩, 13) := ⟨⟨by decide +kernel, by decide +kernel⟩, lw_t1 (List.mem_of_getElem? (i := 4) rfl), lw_t1 (List.mem_of_getElem? (i := 87) rfl), lw_t1 (List.mem_of_getElem? (i := 88) rfl)⟩
theorem lw_p8 : lw_okq (⟨"GoBoard", "store", "()V"⟩, 13) := ⟨⟨by decide +kernel, by decide +kernel⟩, lw_t1 (List.mem_of_getElem? (i := 4) rfl), lw_t1 (List.mem_of_getElem? (i := 91) rfl), lw_t1 (List.mem_of_getElem? (i := 92) rfl)⟩
theorem lw_p9 : lw_okq (⟨"GoBoard", "groupAt", "(I)J"⟩, 13) := ⟨⟨by decide +kernel, by decide +kernel⟩, lw_t1 (List.mem_of_getElem? (i := 4) rfl), lw_t1 (List.mem_of_getElem? (i := 120) rfl), lw_t1 (List.mem_of_getElem? (i := 121) rfl)⟩
theorem lw_p10 : lw_okq (⟨"GoBoard", "empty", "()J"⟩, 13) := ⟨⟨by decide +kernel, by decide +kernel⟩, lw_t1 (List.mem_of_getElem? (i := 4) rfl), lw_t1 (List.mem_of_getElem? (i := 128) rfl), lw_t1 (List.mem_of_getElem? (i := 129) rfl)⟩
theorem lw_p11 : lw_okq (⟨"GoBoard", "lowest", "(J)J"⟩, 13) := ⟨⟨by decide +kernel, by decide +kernel⟩, lw_t1 (List.mem_of_getElem? (i := 4) rfl), lw_t1 (List.mem_of_getElem? (i := 144) rfl), lw_t1 (List.mem_of_getElem? (i := 145) rfl)⟩
theorem lw_p12 : lw_okq (⟨"GoBoardModel", "isPlayer", "(I)Z"⟩, 9) := ⟨⟨by decide +kernel, by decide +kernel⟩, lw_t1 (List.mem_of_getElem? (i := 164) rfl), lw_t1 (List.mem_of_getElem? (i := 203) rfl), lw_t1 (List.mem_of_getElem? (i := 204) rfl)⟩
theorem lw_p13 : lw_okq (⟨"GoBoardModel", "isPoint", "(I)Z"⟩, 9) := ⟨⟨by decide +kernel, by decide +kernel⟩, lw_t1 (List.mem_of_getElem? (i := 164) rfl), lw_t1 (List.mem_of_getElem? (i := 207) rfl), lw_t1 (List.mem_of_getElem? (i := 208) rfl)⟩
theorem lw_p14 : lw_okq (⟨"GoBoardModel", "tryMove", "(II)I"⟩, 9) := ⟨⟨by decide +kernel, by decide +kernel⟩, lw_t1 (List.mem_of_getElem? (i := 164) rfl), lw_t1 (List.mem_of_getElem? (i := 211) rfl), lw_t1 (List.mem_of_getElem? (i := 212) rfl)⟩
theorem lw_p15 : lw_okq (⟨"GoBoardModel", "putAndCapture", "(II)I"⟩, 9) := ⟨⟨by decide +kernel, by decide +kernel⟩, lw_t1 (List.mem_of_getElem? (i := 164) rfl), lw_t1 (List.mem_of_getElem? (i := 215) rfl), lw_t1 (List.mem_of_getElem? (i := 216) rfl)⟩
def lw_privs_1 : List (MethodName × Nat) := [(⟨"GoBoard", "attempt", "(II)I"⟩, 13), (⟨"GoBoard", "badPlayer", "(I)Z"⟩, 13), (⟨"GoBoard", "badPoint", "(I)Z"⟩, 13), (⟨"GoBoard", "stones", "(I)J"⟩, 13), (⟨"GoBoard", "dead", "(JJ)J"⟩, 13), (⟨"GoBoard", "around", "(J)J"⟩, 13), (⟨"GoBoard", "grown", "(JJ)J"⟩, 13), (⟨"GoBoard", "sizeOf", "(J)I"⟩, 13), (⟨"GoBoard", "store", "()V"⟩, 13), (⟨"GoBoard", "groupAt", "(I)J"⟩, 13), (⟨"GoBoard", "empty", "()J"⟩, 13), (⟨"GoBoard", "lowest", "(J)J"⟩, 13), (⟨"GoBoardModel", "isPlayer", "(I)Z"⟩, 9), (⟨"GoBoardModel", "isPoint", "(I)Z"⟩, 9), (⟨"GoBoardModel", "tryMove", "(II)I"⟩, 9), (⟨"GoBoardModel", "putAndCapture", "(II)I"⟩, 9)]
theorem lw_r1 : ∀ q ∈ lw_privs_1, lw_okq q := List.forall_mem_cons.mpr ⟨lw_p0, List.forall_mem_cons.mpr ⟨lw_p1, List.forall_mem_cons.mpr ⟨lw_p2, List.forall_mem_cons.mpr ⟨lw_p3, List.forall_mem_cons.mpr ⟨lw_p4, List.forall_mem_cons.mpr ⟨lw_p5, List.forall_mem_cons.mpr ⟨lw_p6, List.forall_mem_cons.mpr ⟨lw_p7, List.forall_mem_cons.mpr ⟨lw_p8, List.forall_mem_cons.mpr ⟨lw_p9, List.forall_mem_cons.mpr ⟨lw_p10, List.forall_mem_cons.mpr ⟨lw_p11, List.forall_mem_cons.mpr ⟨lw_p12, List.forall_mem_cons.mpr ⟨lw_p13, List.forall_mem_cons.mpr ⟨lw_p14, List.forall_mem_cons.mpr ⟨lw_p15, fun _ h => absurd h List.not_mem_nil⟩⟩⟩⟩⟩⟩⟩⟩⟩⟩⟩⟩⟩⟩⟩⟩
theorem lw_p16 : lw_okq (⟨"GoBoardModel", "reachFrom", "(I)I"⟩, 9) := ⟨⟨by decide +kernel, by decide +kernel⟩, lw_t1 (List.mem_of_getElem? (i := 164) rfl), lw_t1 (List.mem_of_getElem? (i := 219) rfl), lw_t1 (List.mem_of_getElem? (i := 220) rfl)⟩
theorem lw_p17 : lw_okq (⟨"GoBoardModel", "besides", "(IIZ)Z"⟩, 9) := ⟨⟨by decide +kernel, by decide +kernel⟩, lw_t1 (List.mem_of_getElem? (i := 164) rfl), lw_t1 (List.mem_of_getElem? (i := 223) rfl), lw_t1 (List.mem_of_getElem? (i := 224) rfl)⟩
theorem lw_p18 : lw_okq (⟨"GoBoardModel", "neighbour", "(II)I"⟩, 9) := ⟨⟨by decide +kernel, by decide +kernel⟩, lw_t1 (List.mem_of_getElem? (i := 164) rfl), lw_t1 (List.mem_of_getElem? (i := 227) rfl), lw_t1 (List.mem_of_getElem? (i := 228) rfl)⟩
theorem lw_p19 : lw_okq (⟨"GoBoardModel", "countLiberties", "()I"⟩, 9) := ⟨⟨by decide +kernel, by decide +kernel⟩, lw_t1 (List.mem_of_getElem? (i := 164) rfl), lw_t1 (List.mem_of_getElem? (i := 231) rfl), lw_t1 (List.mem_of_getElem? (i := 232) rfl)⟩
theorem lw_p20 : lw_okq (⟨"GoBoardModel", "isAsBefore", "(I)Z"⟩, 9) := ⟨⟨by decide +kernel, by decide +kernel⟩, lw_t1 (List.mem_of_getElem? (i := 164) rfl), lw_t1 (List.mem_of_getElem? (i := 235) rfl), lw_t1 (List.mem_of_getElem? (i := 236) rfl)⟩
theorem lw_p21 : lw_okq (⟨"GoBoardModel", "putBack", "()V"⟩, 9) := ⟨⟨by decide +kernel, by decide +kernel⟩, lw_t1 (List.mem_of_getElem? (i := 164) rfl), lw_t1 (List.mem_of_getElem? (i := 239) rfl), lw_t2 (List.mem_of_getElem? (i := 0) rfl)⟩
theorem lw_p22 : lw_okq (⟨"GoBoardModel", "note", "()V"⟩, 9) := ⟨⟨by decide +kernel, by decide +kernel⟩, lw_t1 (List.mem_of_getElem? (i := 164) rfl), lw_t2 (List.mem_of_getElem? (i := 3) rfl), lw_t2 (List.mem_of_getElem? (i := 4) rfl)⟩
theorem lw_p23 : lw_okq (⟨"GoBoardModel", "firstReached", "()I"⟩, 9) := ⟨⟨by decide +kernel, by decide +kernel⟩, lw_t1 (List.mem_of_getElem? (i := 164) rfl), lw_t2 (List.mem_of_getElem? (i := 48) rfl), lw_t2 (List.mem_of_getElem? (i := 49) rfl)⟩
theorem lw_p24 : lw_okq (⟨"GoBoardModel", "touches", "(I)Z"⟩, 9) := ⟨⟨by decide +kernel, by decide +kernel⟩, lw_t1 (List.mem_of_getElem? (i := 164) rfl), lw_t2 (List.mem_of_getElem? (i := 60) rfl), lw_t2 (List.mem_of_getElem? (i := 61) rfl)⟩
def lw_privs_2 : List (MethodName × Nat) := [(⟨"GoBoardModel", "reachFrom", "(I)I"⟩, 9), (⟨"GoBoardModel", "besides", "(IIZ)Z"⟩, 9), (⟨"GoBoardModel", "neighbour", "(II)I"⟩, 9), (⟨"GoBoardModel", "countLiberties", "()I"⟩, 9), (⟨"GoBoardModel", "isAsBefore", "(I)Z"⟩, 9), (⟨"GoBoardModel", "putBack", "()V"⟩, 9), (⟨"GoBoardModel", "note", "()V"⟩, 9), (⟨"GoBoardModel", "firstReached", "()I"⟩, 9), (⟨"GoBoardModel", "touches", "(I)Z"⟩, 9)]
theorem lw_r2 : ∀ q ∈ lw_privs_2, lw_okq q := List.forall_mem_cons.mpr ⟨lw_p16, List.forall_mem_cons.mpr ⟨lw_p17, List.forall_mem_cons.mpr ⟨lw_p18, List.forall_mem_cons.mpr ⟨lw_p19, List.forall_mem_cons.mpr ⟨lw_p20, List.forall_mem_cons.mpr ⟨lw_p21, List.forall_mem_cons.mpr ⟨lw_p22, List.forall_mem_cons.mpr ⟨lw_p23, List.forall_mem_cons.mpr ⟨lw_p24, fun _ h => absurd h List.not_mem_nil⟩⟩⟩⟩⟩⟩⟩⟩⟩
def lw_privs : List (MethodName × Nat) := lw_privs_1 ++ (lw_privs_2)
def lw_tbl : List Cond := k2_sels lw_privs ++ tables_1
theorem lw_privs_ok : ∀ q ∈ lw_privs, lw_okq q := by
  show ∀ q ∈ lw_privs_1 ++ (lw_privs_2), lw_okq q
  exact List.forall_mem_append.mpr ⟨lw_r1, lw_r2⟩
-- ===== ONE list of words for every method: the tables' words that hold all through a run =====
def lw_all : List Cond := lw_tbl.filter goodWord
/-- a word of the tables by its place: claim/WORDS.tsv -/
theorem lw_w {w : Cond} (i : Nat) (h : lw_tbl[i]? = some w) (g : goodWord w = true) : w ∈ lw_all := List.mem_filter.mpr ⟨List.mem_of_getElem? h, g⟩
theorem lw_all_tbl {w : Cond} (h : w ∈ lw_all) : w ∈ lw_tbl := (List.mem_filter.mp h).1
theorem lw_self : GoodIn lw_all lw_all := fun w h => ⟨h, good_of_word (List.mem_filter.mp h).2⟩
/-- a class's field words, by their places -/
theorem lw_in (ws : List Cond) (ps : List Nat) (hp : ws = ps.filterMap (fun i => lw_tbl[i]?)) (hg : ws.all goodWord = true) : ∀ w ∈ ws, w ∈ lw_all := by
  intro w h
  have h1 := List.all_eq_true.mp hg w h
  rw [hp] at h
  obtain ⟨i, -, hi⟩ := List.mem_filterMap.mp h
  exact lw_w i hi h1
/-- the words of a contract for the method y with code b, L locals, answer r -/
abbrev ws_ (y : MethodName) (b : ByteArray) (L : Nat) (r : Option FieldType) : List Cond := Cond.code y b L r :: lw_all
theorem lw_meth {y : MethodName} {b : ByteArray} {L : Nat} {r : Option FieldType} (h : Cond.code y b L r ∈ lw_all) : GoodIn lw_all (ws_ y b L r) := by
  intro w hw
  rcases List.mem_cons.mp hw with e | e
  · rw [e]
    exact lw_self _ h
  · exact lw_self _ e
theorem lw_app {a c : List Cond} (ha : ∀ w ∈ a, w ∈ lw_all) (hc : GoodIn lw_all c) : GoodIn lw_all (a ++ c) := by
  intro w hw
  rcases List.mem_append.mp hw with e | e
  · exact lw_self w (ha w e)
  · exact hc w e
/-- what a call through an object asks: cwV n hts (lw_V ..) -/
theorem lw_V {own : String} {idx : Nat} {C : String} {y : MethodName} {b : ByteArray} {L : Nat} {r : Option FieldType} (h1 : Cond.methodLink own idx y ∈ lw_all) (h2 : Cond.instanceMethod y ∈ lw_all) (h3 : Cond.selects C y y ∈ lw_all) (h4 : Cond.initialized C ∈ lw_all) (h5 : Cond.code y b L r ∈ lw_all) : GoodIn lw_all (wsV own idx C y (ws_ y b L r)) := by
  refine lw_app ?_ (lw_meth h5)
  intro w hw
  simp only [List.mem_cons, List.not_mem_nil, or_false] at hw
  rcases hw with e | e | e | e
  · rw [e]; exact h1
  · rw [e]; exact h2
  · rw [e]; exact h3
  · rw [e]; exact h4
/-- what a static call asks: va_cwS n hts (lw_S ..) -/
theorem lw_S {own : String} {idx : Nat} {y : MethodName} {b : ByteArray} {L : Nat} {r : Option FieldType} (h1 : Cond.methodLink own idx y ∈ lw_all) (h2 : Cond.static y ∈ lw_all) (h3 : Cond.initialized y.cls ∈ lw_all) (h4 : Cond.code y b L r ∈ lw_all) : GoodIn lw_all (va_wsS own idx y (ws_ y b L r)) := by
  refine lw_app ?_ (lw_meth h4)
  intro w hw
  simp only [List.mem_cons, List.not_mem_nil, or_false] at hw
  rcases hw with e | e | e
  · rw [e]; exact h1
  · rw [e]; exact h2
  · rw [e]; exact h3
/-- the words of a contract for a method WITH HANDLERS (hh: its table) -/
abbrev wsW_ (y : MethodName) (b : ByteArray) (L : Nat) (r : Option FieldType) (hh : List (Nat × Nat × Nat × Nat)) : List Cond := Cond.codeWith y b L r hh :: lw_all
theorem lw_methW {y : MethodName} {b : ByteArray} {L : Nat} {r : Option FieldType} {hh : List (Nat × Nat × Nat × Nat)} (h : Cond.codeWith y b L r hh ∈ lw_all) : GoodIn lw_all (wsW_ y b L r hh) := by
  intro w hw
  rcases List.mem_cons.mp hw with e | e
  · rw [e]
    exact lw_self _ h
  · exact lw_self _ e
/-- any list of words by their places (lw_in), good -/
theorem lw_good {ws : List Cond} (h : ∀ w ∈ ws, w ∈ lw_all) : GoodIn lw_all ws := fun w hw => lw_self w (h w hw)
/-- what a call of a method with handlers asks: vx_cwVW n hts (lw_VW ..), vx_cwSW n hts (lw_SW ..) -/
theorem lw_VW {own : String} {idx : Nat} {C : String} {y : MethodName} {b : ByteArray} {L : Nat} {r : Option FieldType} {hh : List (Nat × Nat × Nat × Nat)} (h1 : Cond.methodLink own idx y ∈ lw_all) (h2 : Cond.instanceMethod y ∈ lw_all) (h3 : Cond.selects C y y ∈ lw_all) (h4 : Cond.initialized C ∈ lw_all) (h5 : Cond.codeWith y b L r hh ∈ lw_all) : GoodIn lw_all (wsV own idx C y (wsW_ y b L r hh)) := by
  refine lw_app ?_ (lw_methW h5)
  intro w hw
  simp only [List.mem_cons, List.not_mem_nil, or_false] at hw
  rcases hw with e | e | e | e
  · rw [e]; exact h1
  · rw [e]; exact h2
  · rw [e]; exact h3
  · rw [e]; exact h4
theorem lw_SW {own : String} {idx : Nat} {y : MethodName} {b : ByteArray} {L : Nat} {r : Option FieldType} {hh : List (Nat × Nat × Nat × Nat)} (h1 : Cond.methodLink own idx y ∈ lw_all) (h2 : Cond.static y ∈ lw_all) (h3 : Cond.initialized y.cls ∈ lw_all) (h4 : Cond.codeWith y b L r hh ∈ lw_all) : GoodIn lw_all (va_wsS own idx y (wsW_ y b L r hh)) := by
  refine lw_app ?_ (lw_methW h4)
  intro w hw
  simp only [List.mem_cons, List.not_mem_nil, or_false] at hw
  rcases hw with e | e | e
  · rw [e]; exact h1
  · rw [e]; exact h2
  · rw [e]; exact h3
/-- a word by its place in its run of the tables -/
theorem lw_at {r : List Cond} (hr : ∀ w ∈ r, w ∈ lw_tbl) {w : Cond} (i : Nat) (h : r[i]? = some w) : w ∈ lw_tbl := hr w (List.mem_of_getElem? h)
theorem lw_g {w : Cond} (h : w ∈ lw_tbl) (g : goodWord w = true) : w ∈ lw_all := List.mem_filter.mpr ⟨h, g⟩
theorem lw_ms : ∀ w ∈ k2_sels lw_privs, w ∈ lw_tbl := fun w h => show w ∈ k2_sels lw_privs ++ tables_1 from List.mem_append_left _ h
theorem lw_m1 : ∀ w ∈ tables_1_1, w ∈ lw_tbl := fun w h => show w ∈ k2_sels lw_privs ++ tables_1 from List.mem_append_right (k2_sels lw_privs) (show w ∈ tables_1 from List.mem_append_left _ h)
theorem lw_m2 : ∀ w ∈ tables_1_2, w ∈ lw_tbl := fun w h => show w ∈ k2_sels lw_privs ++ tables_1 from List.mem_append_right (k2_sels lw_privs) (show w ∈ tables_1 from List.mem_append_right _ h)
theorem qs0 : (Cond.selects "GoBoard" ⟨"GoBoard", "attempt", "(II)I"⟩ ⟨"GoBoard", "attempt", "(II)I"⟩) ∈ lw_all := lw_g (lw_at lw_ms 0 rfl) rfl
theorem qs1 : (Cond.selects "GoBoard" ⟨"GoBoard", "badPlayer", "(I)Z"⟩ ⟨"GoBoard", "badPlayer", "(I)Z"⟩) ∈ lw_all := lw_g (lw_at lw_ms 1 rfl) rfl
theorem qs2 : (Cond.selects "GoBoard" ⟨"GoBoard", "badPoint", "(I)Z"⟩ ⟨"GoBoard", "badPoint", "(I)Z"⟩) ∈ lw_all := lw_g (lw_at lw_ms 2 rfl) rfl
theorem qs3 : (Cond.selects "GoBoard" ⟨"GoBoard", "stones", "(I)J"⟩ ⟨"GoBoard", "stones", "(I)J"⟩) ∈ lw_all := lw_g (lw_at lw_ms 3 rfl) rfl
theorem qs4 : (Cond.selects "GoBoard" ⟨"GoBoard", "dead", "(JJ)J"⟩ ⟨"GoBoard", "dead", "(JJ)J"⟩) ∈ lw_all := lw_g (lw_at lw_ms 4 rfl) rfl
theorem qs5 : (Cond.selects "GoBoard" ⟨"GoBoard", "around", "(J)J"⟩ ⟨"GoBoard", "around", "(J)J"⟩) ∈ lw_all := lw_g (lw_at lw_ms 5 rfl) rfl
theorem qs6 : (Cond.selects "GoBoard" ⟨"GoBoard", "grown", "(JJ)J"⟩ ⟨"GoBoard", "grown", "(JJ)J"⟩) ∈ lw_all := lw_g (lw_at lw_ms 6 rfl) rfl
theorem qs7 : (Cond.selects "GoBoard" ⟨"GoBoard", "sizeOf", "(J)I"⟩ ⟨"GoBoard", "sizeOf", "(J)I"⟩) ∈ lw_all := lw_g (lw_at lw_ms 7 rfl) rfl
theorem qs8 : (Cond.selects "GoBoard" ⟨"GoBoard", "store", "()V"⟩ ⟨"GoBoard", "store", "()V"⟩) ∈ lw_all := lw_g (lw_at lw_ms 8 rfl) rfl
theorem qs9 : (Cond.selects "GoBoard" ⟨"GoBoard", "groupAt", "(I)J"⟩ ⟨"GoBoard", "groupAt", "(I)J"⟩) ∈ lw_all := lw_g (lw_at lw_ms 9 rfl) rfl
theorem qs10 : (Cond.selects "GoBoard" ⟨"GoBoard", "empty", "()J"⟩ ⟨"GoBoard", "empty", "()J"⟩) ∈ lw_all := lw_g (lw_at lw_ms 10 rfl) rfl
theorem qs11 : (Cond.selects "GoBoard" ⟨"GoBoard", "lowest", "(J)J"⟩ ⟨"GoBoard", "lowest", "(J)J"⟩) ∈ lw_all := lw_g (lw_at lw_ms 11 rfl) rfl
theorem qs12 : (Cond.selects "GoBoardModel" ⟨"GoBoardModel", "isPlayer", "(I)Z"⟩ ⟨"GoBoardModel", "isPlayer", "(I)Z"⟩) ∈ lw_all := lw_g (lw_at lw_ms 12 rfl) rfl
theorem qs13 : (Cond.selects "GoBoardModel" ⟨"GoBoardModel", "isPoint", "(I)Z"⟩ ⟨"GoBoardModel", "isPoint", "(I)Z"⟩) ∈ lw_all := lw_g (lw_at lw_ms 13 rfl) rfl
theorem qs14 : (Cond.selects "GoBoardModel" ⟨"GoBoardModel", "tryMove", "(II)I"⟩ ⟨"GoBoardModel", "tryMove", "(II)I"⟩) ∈ lw_all := lw_g (lw_at lw_ms 14 rfl) rfl
theorem qs15 : (Cond.selects "GoBoardModel" ⟨"GoBoardModel", "putAndCapture", "(II)I"⟩ ⟨"GoBoardModel", "putAndCapture", "(II)I"⟩) ∈ lw_all := lw_g (lw_at lw_ms 15 rfl) rfl
theorem qs16 : (Cond.selects "GoBoardModel" ⟨"GoBoardModel", "reachFrom", "(I)I"⟩ ⟨"GoBoardModel", "reachFrom", "(I)I"⟩) ∈ lw_all := lw_g (lw_at lw_ms 16 rfl) rfl
theorem qs17 : (Cond.selects "GoBoardModel" ⟨"GoBoardModel", "besides", "(IIZ)Z"⟩ ⟨"GoBoardModel", "besides", "(IIZ)Z"⟩) ∈ lw_all := lw_g (lw_at lw_ms 17 rfl) rfl
theorem qs18 : (Cond.selects "GoBoardModel" ⟨"GoBoardModel", "neighbour", "(II)I"⟩ ⟨"GoBoardModel", "neighbour", "(II)I"⟩) ∈ lw_all := lw_g (lw_at lw_ms 18 rfl) rfl
theorem qs19 : (Cond.selects "GoBoardModel" ⟨"GoBoardModel", "countLiberties", "()I"⟩ ⟨"GoBoardModel", "countLiberties", "()I"⟩) ∈ lw_all := lw_g (lw_at lw_ms 19 rfl) rfl
theorem qs20 : (Cond.selects "GoBoardModel" ⟨"GoBoardModel", "isAsBefore", "(I)Z"⟩ ⟨"GoBoardModel", "isAsBefore", "(I)Z"⟩) ∈ lw_all := lw_g (lw_at lw_ms 20 rfl) rfl
theorem qs21 : (Cond.selects "GoBoardModel" ⟨"GoBoardModel", "putBack", "()V"⟩ ⟨"GoBoardModel", "putBack", "()V"⟩) ∈ lw_all := lw_g (lw_at lw_ms 21 rfl) rfl
theorem qs22 : (Cond.selects "GoBoardModel" ⟨"GoBoardModel", "note", "()V"⟩ ⟨"GoBoardModel", "note", "()V"⟩) ∈ lw_all := lw_g (lw_at lw_ms 22 rfl) rfl
theorem qs23 : (Cond.selects "GoBoardModel" ⟨"GoBoardModel", "firstReached", "()I"⟩ ⟨"GoBoardModel", "firstReached", "()I"⟩) ∈ lw_all := lw_g (lw_at lw_ms 23 rfl) rfl
theorem qs24 : (Cond.selects "GoBoardModel" ⟨"GoBoardModel", "touches", "(I)Z"⟩ ⟨"GoBoardModel", "touches", "(I)Z"⟩) ∈ lw_all := lw_g (lw_at lw_ms 24 rfl) rfl
end
section
/-! GoBoard -/
set_option maxRecDepth 100000
def RX0 : String := "GoBoard"
def TX0 : u_T := fun k => match k with
  | 0 => ("GoBoard", "all", "J", true)
  | 1 => ("GoBoard", "notFirst", "J", true)
  | 2 => ("GoBoard", "notLast", "J", true)
  | 3 => ("GoBoard", "black", "J", false)
  | 4 => ("GoBoard", "white", "J", false)
  | 5 => ("GoBoard", "count", "I", false)
  | 6 => ("GoBoard", "oldBlack", "[J", true)
  | 7 => ("GoBoard", "oldWhite", "[J", true)
  | 8 => ("GoBoard", "oldTaken", "[I", true)
  | 9 => ("GoBoard", "blackTook", "I", false)
  | 10 => ("GoBoard", "whiteTook", "I", false)
  | 11 => ("GoBoard", "trialBlack", "J", false)
  | _ => ("GoBoard", "trialWhite", "J", false)
def tyX0 : Nat → FieldType := fun k => match k with
  | 0 => .long
  | 1 => .long
  | 2 => .long
  | 3 => .long
  | 4 => .long
  | 5 => .int
  | 6 => .array .long
  | 7 => .array .long
  | 8 => .array .int
  | 9 => .int
  | 10 => .int
  | 11 => .long
  | _ => .long
abbrev wsX00 : List Cond := u_ws RX0 TX0 13
set_option maxRecDepth 100000 in
theorem nmX0 : ∀ a, a < 13 → ∀ b, b < 13 → a ≠ b → (TX0 a).2.1 ≠ (TX0 b).2.1 := by decide +kernel
set_option maxRecDepth 100000 in
theorem tyX0_ok : ∀ k, k < 13 → parseFieldDescriptor (TX0 k).2.2.1 = some (tyX0 k) := by decide +kernel
abbrev cX0_init : ByteArray := prog_1_method_1_code
def yX0_init : MethodName := ⟨RX0, "<init>", "()V"⟩
abbrev cX0_play : ByteArray := prog_1_method_12_code
def yX0_play : MethodName := ⟨RX0, "play", "(II)I"⟩
abbrev cX0_attempt : ByteArray := prog_1_method_10_code
def yX0_attempt : MethodName := ⟨RX0, "attempt", "(II)I"⟩
abbrev cX0_badPlayer : ByteArray := prog_1_method_8_code
def yX0_badPlayer : MethodName := ⟨RX0, "badPlayer", "(I)Z"⟩
abbrev cX0_badPoint : ByteArray := prog_1_method_7_code
def yX0_badPoint : MethodName := ⟨RX0, "badPoint", "(I)Z"⟩
abbrev cX0_stones : ByteArray := prog_1_method_5_code
def yX0_stones : MethodName := ⟨RX0, "stones", "(I)J"⟩
abbrev cX0_dead : ByteArray := prog_1_method_9_code
def yX0_dead : MethodName := ⟨RX0, "dead", "(JJ)J"⟩
abbrev cX0_around : ByteArray := prog_1_method_2_code
def yX0_around : MethodName := ⟨RX0, "around", "(J)J"⟩
abbrev cX0_grown : ByteArray := prog_1_method_3_code
def yX0_grown : MethodName := ⟨RX0, "grown", "(JJ)J"⟩
abbrev cX0_sizeOf : ByteArray := prog_1_method_4_code
def yX0_sizeOf : MethodName := ⟨RX0, "sizeOf", "(J)I"⟩
abbrev cX0_store : ByteArray := prog_1_method_11_code
def yX0_store : MethodName := ⟨RX0, "store", "()V"⟩
abbrev cX0_pass : ByteArray := prog_1_method_13_code
def yX0_pass : MethodName := ⟨RX0, "pass", "()I"⟩
abbrev cX0_undo : ByteArray := prog_1_method_14_code
def yX0_undo : MethodName := ⟨RX0, "undo", "()I"⟩
abbrev cX0_set : ByteArray := prog_1_method_15_code
def yX0_set : MethodName := ⟨RX0, "set", "(II)I"⟩
abbrev cX0_at : ByteArray := prog_1_method_16_code
def yX0_at : MethodName := ⟨RX0, "at", "(I)I"⟩
abbrev cX0_captured : ByteArray := prog_1_method_17_code
def yX0_captured : MethodName := ⟨RX0, "captured", "(I)I"⟩
abbrev cX0_groupSize : ByteArray := prog_1_method_19_code
def yX0_groupSize : MethodName := ⟨RX0, "groupSize", "(I)I"⟩
abbrev cX0_groupAt : ByteArray := prog_1_method_18_code
def yX0_groupAt : MethodName := ⟨RX0, "groupAt", "(I)J"⟩
abbrev cX0_liberties : ByteArray := prog_1_method_20_code
def yX0_liberties : MethodName := ⟨RX0, "liberties", "(I)I"⟩
abbrev cX0_empty : ByteArray := prog_1_method_6_code
def yX0_empty : MethodName := ⟨RX0, "empty", "()J"⟩
abbrev cX0_trial : ByteArray := prog_1_method_21_code
def yX0_trial : MethodName := ⟨RX0, "trial", "(II)I"⟩
abbrev cX0_moves : ByteArray := prog_1_method_22_code
def yX0_moves : MethodName := ⟨RX0, "moves", "(I)I"⟩
abbrev cX0_groups : ByteArray := prog_1_method_24_code
def yX0_groups : MethodName := ⟨RX0, "groups", "(I)I"⟩
abbrev cX0_lowest : ByteArray := prog_1_method_23_code
def yX0_lowest : MethodName := ⟨RX0, "lowest", "(J)J"⟩
abbrev cX0_inAtari : ByteArray := prog_1_method_25_code
def yX0_inAtari : MethodName := ⟨RX0, "inAtari", "(I)I"⟩
abbrev cX0_score : ByteArray := prog_1_method_26_code
def yX0_score : MethodName := ⟨RX0, "score", "(I)I"⟩
abbrev cX0_region : ByteArray := prog_1_method_27_code
def yX0_region : MethodName := ⟨RX0, "region", "(I)I"⟩
abbrev cX0_done : ByteArray := prog_1_method_28_code
def yX0_done : MethodName := ⟨RX0, "done", "()I"⟩
theorem q26 : (Jvm.Cond.initialized "GoBoard") ∈ lw_all := lw_g (lw_at lw_m1 1 rfl) rfl
theorem q29 : (Jvm.Cond.instantiable "GoBoard" (13 : Nat)) ∈ lw_all := lw_g (lw_at lw_m1 4 rfl) rfl
theorem q31 : (Jvm.Cond.instanceMethod ({ cls := "GoBoard", name := "<init>", desc := "()V" } : Jvm.MethodName)) ∈ lw_all := lw_g (lw_at lw_m1 6 rfl) rfl
theorem q32 : (Jvm.Cond.code ({ cls := "GoBoard", name := "<init>", desc := "()V" } : Jvm.MethodName) prog_1_method_1_code (8 : Nat) (Option.none : Option Jvm.ClassFile.FieldType)) ∈ lw_all := lw_g (lw_at lw_m1 7 rfl) rfl
theorem q33 : (Jvm.Cond.methodLink "GoBoard" (1 : Nat) ({ cls := "java/lang/Object", name := "<init>", desc := "()V" } : Jvm.MethodName)) ∈ lw_all := lw_g (lw_at lw_m1 8 rfl) rfl
theorem q36 : (Jvm.Cond.constantLong "GoBoard" (24 : Nat) (-1 : Int64)) ∈ lw_all := lw_g (lw_at lw_m1 11 rfl) rfl
theorem q37 : (Jvm.Cond.fieldLink "GoBoard" (20 : Nat) "GoBoard" "all" "J") ∈ lw_all := lw_g (lw_at lw_m1 12 rfl) rfl
theorem q38 : (Jvm.Cond.fieldLink "GoBoard" (26 : Nat) "GoBoard" "notFirst" "J") ∈ lw_all := lw_g (lw_at lw_m1 13 rfl) rfl
theorem q39 : (Jvm.Cond.fieldLink "GoBoard" (29 : Nat) "GoBoard" "notLast" "J") ∈ lw_all := lw_g (lw_at lw_m1 14 rfl) rfl
theorem q40 : (Jvm.Cond.fieldLink "GoBoard" (36 : Nat) "GoBoard" "black" "J") ∈ lw_all := lw_g (lw_at lw_m1 15 rfl) rfl
theorem q41 : (Jvm.Cond.fieldLink "GoBoard" (39 : Nat) "GoBoard" "white" "J") ∈ lw_all := lw_g (lw_at lw_m1 16 rfl) rfl
theorem q42 : (Jvm.Cond.fieldLink "GoBoard" (66 : Nat) "GoBoard" "count" "I") ∈ lw_all := lw_g (lw_at lw_m1 17 rfl) rfl
theorem q43 : (Jvm.Cond.fieldLink "GoBoard" (7 : Nat) "GoBoard" "oldBlack" "[J") ∈ lw_all := lw_g (lw_at lw_m1 18 rfl) rfl
theorem q44 : (Jvm.Cond.fieldLink "GoBoard" (13 : Nat) "GoBoard" "oldWhite" "[J") ∈ lw_all := lw_g (lw_at lw_m1 19 rfl) rfl
theorem q45 : (Jvm.Cond.fieldLink "GoBoard" (16 : Nat) "GoBoard" "oldTaken" "[I") ∈ lw_all := lw_g (lw_at lw_m1 20 rfl) rfl
theorem q46 : (Jvm.Cond.fieldLink "GoBoard" (74 : Nat) "GoBoard" "blackTook" "I") ∈ lw_all := lw_g (lw_at lw_m1 21 rfl) rfl
theorem q47 : (Jvm.Cond.fieldLink "GoBoard" (77 : Nat) "GoBoard" "whiteTook" "I") ∈ lw_all := lw_g (lw_at lw_m1 22 rfl) rfl
theorem q48 : (Jvm.Cond.fieldLink "GoBoard" (60 : Nat) "GoBoard" "trialBlack" "J") ∈ lw_all := lw_g (lw_at lw_m1 23 rfl) rfl
theorem q49 : (Jvm.Cond.fieldLink "GoBoard" (63 : Nat) "GoBoard" "trialWhite" "J") ∈ lw_all := lw_g (lw_at lw_m1 24 rfl) rfl
theorem q50 : (Jvm.Cond.laysFinal "GoBoard" "GoBoard" "all" "J") ∈ lw_all := lw_g (lw_at lw_m1 25 rfl) rfl
theorem q51 : (Jvm.Cond.soleField "GoBoard" "all") ∈ lw_all := lw_g (lw_at lw_m1 26 rfl) rfl
theorem q52 : (Jvm.Cond.laysFinal "GoBoard" "GoBoard" "notFirst" "J") ∈ lw_all := lw_g (lw_at lw_m1 27 rfl) rfl
theorem q53 : (Jvm.Cond.soleField "GoBoard" "notFirst") ∈ lw_all := lw_g (lw_at lw_m1 28 rfl) rfl
theorem q54 : (Jvm.Cond.laysFinal "GoBoard" "GoBoard" "notLast" "J") ∈ lw_all := lw_g (lw_at lw_m1 29 rfl) rfl
theorem q55 : (Jvm.Cond.soleField "GoBoard" "notLast") ∈ lw_all := lw_g (lw_at lw_m1 30 rfl) rfl
theorem q56 : (Jvm.Cond.lays "GoBoard" "GoBoard" "black" "J") ∈ lw_all := lw_g (lw_at lw_m1 31 rfl) rfl
theorem q57 : (Jvm.Cond.soleField "GoBoard" "black") ∈ lw_all := lw_g (lw_at lw_m1 32 rfl) rfl
theorem q58 : (Jvm.Cond.lays "GoBoard" "GoBoard" "white" "J") ∈ lw_all := lw_g (lw_at lw_m1 33 rfl) rfl
theorem q59 : (Jvm.Cond.soleField "GoBoard" "white") ∈ lw_all := lw_g (lw_at lw_m1 34 rfl) rfl
theorem q60 : (Jvm.Cond.lays "GoBoard" "GoBoard" "count" "I") ∈ lw_all := lw_g (lw_at lw_m1 35 rfl) rfl
theorem q61 : (Jvm.Cond.soleField "GoBoard" "count") ∈ lw_all := lw_g (lw_at lw_m1 36 rfl) rfl
theorem q62 : (Jvm.Cond.laysFinal "GoBoard" "GoBoard" "oldBlack" "[J") ∈ lw_all := lw_g (lw_at lw_m1 37 rfl) rfl
theorem q63 : (Jvm.Cond.soleField "GoBoard" "oldBlack") ∈ lw_all := lw_g (lw_at lw_m1 38 rfl) rfl
theorem q64 : (Jvm.Cond.laysFinal "GoBoard" "GoBoard" "oldWhite" "[J") ∈ lw_all := lw_g (lw_at lw_m1 39 rfl) rfl
theorem q65 : (Jvm.Cond.soleField "GoBoard" "oldWhite") ∈ lw_all := lw_g (lw_at lw_m1 40 rfl) rfl
theorem q66 : (Jvm.Cond.laysFinal "GoBoard" "GoBoard" "oldTaken" "[I") ∈ lw_all := lw_g (lw_at lw_m1 41 rfl) rfl
theorem q67 : (Jvm.Cond.soleField "GoBoard" "oldTaken") ∈ lw_all := lw_g (lw_at lw_m1 42 rfl) rfl
theorem q68 : (Jvm.Cond.lays "GoBoard" "GoBoard" "blackTook" "I") ∈ lw_all := lw_g (lw_at lw_m1 43 rfl) rfl
theorem q69 : (Jvm.Cond.soleField "GoBoard" "blackTook") ∈ lw_all := lw_g (lw_at lw_m1 44 rfl) rfl
theorem q70 : (Jvm.Cond.lays "GoBoard" "GoBoard" "whiteTook" "I") ∈ lw_all := lw_g (lw_at lw_m1 45 rfl) rfl
theorem q71 : (Jvm.Cond.soleField "GoBoard" "whiteTook") ∈ lw_all := lw_g (lw_at lw_m1 46 rfl) rfl
theorem q72 : (Jvm.Cond.lays "GoBoard" "GoBoard" "trialBlack" "J") ∈ lw_all := lw_g (lw_at lw_m1 47 rfl) rfl
theorem q73 : (Jvm.Cond.soleField "GoBoard" "trialBlack") ∈ lw_all := lw_g (lw_at lw_m1 48 rfl) rfl
theorem q74 : (Jvm.Cond.lays "GoBoard" "GoBoard" "trialWhite" "J") ∈ lw_all := lw_g (lw_at lw_m1 49 rfl) rfl
theorem q75 : (Jvm.Cond.soleField "GoBoard" "trialWhite") ∈ lw_all := lw_g (lw_at lw_m1 50 rfl) rfl
theorem q76 : (Jvm.Cond.superclass "GoBoard" "java/lang/Object") ∈ lw_all := lw_g (lw_at lw_m1 51 rfl) rfl
theorem q80 : (Jvm.Cond.instanceMethod ({ cls := "GoBoard", name := "play", desc := "(II)I" } : Jvm.MethodName)) ∈ lw_all := lw_g (lw_at lw_m1 55 rfl) rfl
theorem q81 : (Jvm.Cond.selects "GoBoard" ({ cls := "GoBoard", name := "play", desc := "(II)I" } : Jvm.MethodName) ({ cls := "GoBoard", name := "play", desc := "(II)I" } : Jvm.MethodName)) ∈ lw_all := lw_g (lw_at lw_m1 56 rfl) rfl
theorem q82 : (Jvm.Cond.code ({ cls := "GoBoard", name := "play", desc := "(II)I" } : Jvm.MethodName) prog_1_method_12_code (4 : Nat) (Option.some Jvm.ClassFile.FieldType.int)) ∈ lw_all := lw_g (lw_at lw_m1 57 rfl) rfl
theorem q83 : (Jvm.Cond.methodLink "GoBoard" (80 : Nat) ({ cls := "GoBoard", name := "attempt", desc := "(II)I" } : Jvm.MethodName)) ∈ lw_all := lw_g (lw_at lw_m1 58 rfl) rfl
theorem q84 : (Jvm.Cond.privateMethod ({ cls := "GoBoard", name := "attempt", desc := "(II)I" } : Jvm.MethodName)) ∈ lw_tbl := lw_at lw_m1 59 rfl
theorem q85 : (Jvm.Cond.instanceMethod ({ cls := "GoBoard", name := "attempt", desc := "(II)I" } : Jvm.MethodName)) ∈ lw_all := lw_g (lw_at lw_m1 60 rfl) rfl
theorem q86 : (Jvm.Cond.code ({ cls := "GoBoard", name := "attempt", desc := "(II)I" } : Jvm.MethodName) prog_1_method_10_code (15 : Nat) (Option.some Jvm.ClassFile.FieldType.int)) ∈ lw_all := lw_g (lw_at lw_m1 61 rfl) rfl
theorem q87 : (Jvm.Cond.methodLink "GoBoard" (46 : Nat) ({ cls := "GoBoard", name := "badPlayer", desc := "(I)Z" } : Jvm.MethodName)) ∈ lw_all := lw_g (lw_at lw_m1 62 rfl) rfl
theorem q88 : (Jvm.Cond.privateMethod ({ cls := "GoBoard", name := "badPlayer", desc := "(I)Z" } : Jvm.MethodName)) ∈ lw_tbl := lw_at lw_m1 63 rfl
theorem q89 : (Jvm.Cond.instanceMethod ({ cls := "GoBoard", name := "badPlayer", desc := "(I)Z" } : Jvm.MethodName)) ∈ lw_all := lw_g (lw_at lw_m1 64 rfl) rfl
theorem q90 : (Jvm.Cond.code ({ cls := "GoBoard", name := "badPlayer", desc := "(I)Z" } : Jvm.MethodName) prog_1_method_8_code (2 : Nat) (Option.some Jvm.ClassFile.FieldType.boolean)) ∈ lw_all := lw_g (lw_at lw_m1 65 rfl) rfl
theorem q91 : (Jvm.Cond.methodLink "GoBoard" (50 : Nat) ({ cls := "GoBoard", name := "badPoint", desc := "(I)Z" } : Jvm.MethodName)) ∈ lw_all := lw_g (lw_at lw_m1 66 rfl) rfl
theorem q92 : (Jvm.Cond.privateMethod ({ cls := "GoBoard", name := "badPoint", desc := "(I)Z" } : Jvm.MethodName)) ∈ lw_tbl := lw_at lw_m1 67 rfl
theorem q93 : (Jvm.Cond.instanceMethod ({ cls := "GoBoard", name := "badPoint", desc := "(I)Z" } : Jvm.MethodName)) ∈ lw_all := lw_g (lw_at lw_m1 68 rfl) rfl
theorem q94 : (Jvm.Cond.code ({ cls := "GoBoard", name := "badPoint", desc := "(I)Z" } : Jvm.MethodName) prog_1_method_7_code (2 : Nat) (Option.some Jvm.ClassFile.FieldType.boolean)) ∈ lw_all := lw_g (lw_at lw_m1 69 rfl) rfl
theorem q95 : (Jvm.Cond.methodLink "GoBoard" (53 : Nat) ({ cls := "GoBoard", name := "stones", desc := "(I)J" } : Jvm.MethodName)) ∈ lw_all := lw_g (lw_at lw_m1 70 rfl) rfl
theorem q96 : (Jvm.Cond.privateMethod ({ cls := "GoBoard", name := "stones", desc := "(I)J" } : Jvm.MethodName)) ∈ lw_tbl := lw_at lw_m1 71 rfl
theorem q97 : (Jvm.Cond.instanceMethod ({ cls := "GoBoard", name := "stones", desc := "(I)J" } : Jvm.MethodName)) ∈ lw_all := lw_g (lw_at lw_m1 72 rfl) rfl
theorem q98 : (Jvm.Cond.code ({ cls := "GoBoard", name := "stones", desc := "(I)J" } : Jvm.MethodName) prog_1_method_5_code (2 : Nat) (Option.some Jvm.ClassFile.FieldType.long)) ∈ lw_all := lw_g (lw_at lw_m1 73 rfl) rfl
theorem q99 : (Jvm.Cond.methodLink "GoBoard" (57 : Nat) ({ cls := "GoBoard", name := "dead", desc := "(JJ)J" } : Jvm.MethodName)) ∈ lw_all := lw_g (lw_at lw_m1 74 rfl) rfl
theorem q100 : (Jvm.Cond.privateMethod ({ cls := "GoBoard", name := "dead", desc := "(JJ)J" } : Jvm.MethodName)) ∈ lw_tbl := lw_at lw_m1 75 rfl
theorem q101 : (Jvm.Cond.instanceMethod ({ cls := "GoBoard", name := "dead", desc := "(JJ)J" } : Jvm.MethodName)) ∈ lw_all := lw_g (lw_at lw_m1 76 rfl) rfl
theorem q102 : (Jvm.Cond.code ({ cls := "GoBoard", name := "dead", desc := "(JJ)J" } : Jvm.MethodName) prog_1_method_9_code (9 : Nat) (Option.some Jvm.ClassFile.FieldType.long)) ∈ lw_all := lw_g (lw_at lw_m1 77 rfl) rfl
theorem q103 : (Jvm.Cond.methodLink "GoBoard" (32 : Nat) ({ cls := "GoBoard", name := "around", desc := "(J)J" } : Jvm.MethodName)) ∈ lw_all := lw_g (lw_at lw_m1 78 rfl) rfl
theorem q104 : (Jvm.Cond.privateMethod ({ cls := "GoBoard", name := "around", desc := "(J)J" } : Jvm.MethodName)) ∈ lw_tbl := lw_at lw_m1 79 rfl
theorem q105 : (Jvm.Cond.instanceMethod ({ cls := "GoBoard", name := "around", desc := "(J)J" } : Jvm.MethodName)) ∈ lw_all := lw_g (lw_at lw_m1 80 rfl) rfl
theorem q106 : (Jvm.Cond.code ({ cls := "GoBoard", name := "around", desc := "(J)J" } : Jvm.MethodName) prog_1_method_2_code (11 : Nat) (Option.some Jvm.ClassFile.FieldType.long)) ∈ lw_all := lw_g (lw_at lw_m1 81 rfl) rfl
theorem q107 : (Jvm.Cond.methodLink "GoBoard" (42 : Nat) ({ cls := "GoBoard", name := "grown", desc := "(JJ)J" } : Jvm.MethodName)) ∈ lw_all := lw_g (lw_at lw_m1 82 rfl) rfl
theorem q108 : (Jvm.Cond.privateMethod ({ cls := "GoBoard", name := "grown", desc := "(JJ)J" } : Jvm.MethodName)) ∈ lw_tbl := lw_at lw_m1 83 rfl
theorem q109 : (Jvm.Cond.instanceMethod ({ cls := "GoBoard", name := "grown", desc := "(JJ)J" } : Jvm.MethodName)) ∈ lw_all := lw_g (lw_at lw_m1 84 rfl) rfl
theorem q110 : (Jvm.Cond.code ({ cls := "GoBoard", name := "grown", desc := "(JJ)J" } : Jvm.MethodName) prog_1_method_3_code (11 : Nat) (Option.some Jvm.ClassFile.FieldType.long)) ∈ lw_all := lw_g (lw_at lw_m1 85 rfl) rfl
theorem q111 : (Jvm.Cond.methodLink "GoBoard" (70 : Nat) ({ cls := "GoBoard", name := "sizeOf", desc := "(J)I" } : Jvm.MethodName)) ∈ lw_all := lw_g (lw_at lw_m1 86 rfl) rfl
theorem q112 : (Jvm.Cond.privateMethod ({ cls := "GoBoard", name := "sizeOf", desc := "(J)I" } : Jvm.MethodName)) ∈ lw_tbl := lw_at lw_m1 87 rfl
theorem q113 : (Jvm.Cond.instanceMethod ({ cls := "GoBoard", name := "sizeOf", desc := "(J)I" } : Jvm.MethodName)) ∈ lw_all := lw_g (lw_at lw_m1 88 rfl) rfl
theorem q114 : (Jvm.Cond.code ({ cls := "GoBoard", name := "sizeOf", desc := "(J)I" } : Jvm.MethodName) prog_1_method_4_code (5 : Nat) (Option.some Jvm.ClassFile.FieldType.int)) ∈ lw_all := lw_g (lw_at lw_m1 89 rfl) rfl
theorem q115 : (Jvm.Cond.methodLink "GoBoard" (84 : Nat) ({ cls := "GoBoard", name := "store", desc := "()V" } : Jvm.MethodName)) ∈ lw_all := lw_g (lw_at lw_m1 90 rfl) rfl
theorem q116 : (Jvm.Cond.privateMethod ({ cls := "GoBoard", name := "store", desc := "()V" } : Jvm.MethodName)) ∈ lw_tbl := lw_at lw_m1 91 rfl
theorem q117 : (Jvm.Cond.instanceMethod ({ cls := "GoBoard", name := "store", desc := "()V" } : Jvm.MethodName)) ∈ lw_all := lw_g (lw_at lw_m1 92 rfl) rfl
theorem q118 : (Jvm.Cond.code ({ cls := "GoBoard", name := "store", desc := "()V" } : Jvm.MethodName) prog_1_method_11_code (1 : Nat) (Option.none : Option Jvm.ClassFile.FieldType)) ∈ lw_all := lw_g (lw_at lw_m1 93 rfl) rfl
theorem q120 : (Jvm.Cond.instanceMethod ({ cls := "GoBoard", name := "pass", desc := "()I" } : Jvm.MethodName)) ∈ lw_all := lw_g (lw_at lw_m1 95 rfl) rfl
theorem q121 : (Jvm.Cond.selects "GoBoard" ({ cls := "GoBoard", name := "pass", desc := "()I" } : Jvm.MethodName) ({ cls := "GoBoard", name := "pass", desc := "()I" } : Jvm.MethodName)) ∈ lw_all := lw_g (lw_at lw_m1 96 rfl) rfl
theorem q122 : (Jvm.Cond.code ({ cls := "GoBoard", name := "pass", desc := "()I" } : Jvm.MethodName) prog_1_method_13_code (1 : Nat) (Option.some Jvm.ClassFile.FieldType.int)) ∈ lw_all := lw_g (lw_at lw_m1 97 rfl) rfl
theorem q124 : (Jvm.Cond.instanceMethod ({ cls := "GoBoard", name := "undo", desc := "()I" } : Jvm.MethodName)) ∈ lw_all := lw_g (lw_at lw_m1 99 rfl) rfl
theorem q125 : (Jvm.Cond.selects "GoBoard" ({ cls := "GoBoard", name := "undo", desc := "()I" } : Jvm.MethodName) ({ cls := "GoBoard", name := "undo", desc := "()I" } : Jvm.MethodName)) ∈ lw_all := lw_g (lw_at lw_m1 100 rfl) rfl
theorem q126 : (Jvm.Cond.code ({ cls := "GoBoard", name := "undo", desc := "()I" } : Jvm.MethodName) prog_1_method_14_code (1 : Nat) (Option.some Jvm.ClassFile.FieldType.int)) ∈ lw_all := lw_g (lw_at lw_m1 101 rfl) rfl
theorem q128 : (Jvm.Cond.instanceMethod ({ cls := "GoBoard", name := "set", desc := "(II)I" } : Jvm.MethodName)) ∈ lw_all := lw_g (lw_at lw_m1 103 rfl) rfl
theorem q129 : (Jvm.Cond.selects "GoBoard" ({ cls := "GoBoard", name := "set", desc := "(II)I" } : Jvm.MethodName) ({ cls := "GoBoard", name := "set", desc := "(II)I" } : Jvm.MethodName)) ∈ lw_all := lw_g (lw_at lw_m1 104 rfl) rfl
theorem q130 : (Jvm.Cond.code ({ cls := "GoBoard", name := "set", desc := "(II)I" } : Jvm.MethodName) prog_1_method_15_code (6 : Nat) (Option.some Jvm.ClassFile.FieldType.int)) ∈ lw_all := lw_g (lw_at lw_m1 105 rfl) rfl
theorem q132 : (Jvm.Cond.instanceMethod ({ cls := "GoBoard", name := "at", desc := "(I)I" } : Jvm.MethodName)) ∈ lw_all := lw_g (lw_at lw_m1 107 rfl) rfl
theorem q133 : (Jvm.Cond.selects "GoBoard" ({ cls := "GoBoard", name := "at", desc := "(I)I" } : Jvm.MethodName) ({ cls := "GoBoard", name := "at", desc := "(I)I" } : Jvm.MethodName)) ∈ lw_all := lw_g (lw_at lw_m1 108 rfl) rfl
theorem q134 : (Jvm.Cond.code ({ cls := "GoBoard", name := "at", desc := "(I)I" } : Jvm.MethodName) prog_1_method_16_code (2 : Nat) (Option.some Jvm.ClassFile.FieldType.int)) ∈ lw_all := lw_g (lw_at lw_m1 109 rfl) rfl
theorem q136 : (Jvm.Cond.instanceMethod ({ cls := "GoBoard", name := "captured", desc := "(I)I" } : Jvm.MethodName)) ∈ lw_all := lw_g (lw_at lw_m1 111 rfl) rfl
theorem q137 : (Jvm.Cond.selects "GoBoard" ({ cls := "GoBoard", name := "captured", desc := "(I)I" } : Jvm.MethodName) ({ cls := "GoBoard", name := "captured", desc := "(I)I" } : Jvm.MethodName)) ∈ lw_all := lw_g (lw_at lw_m1 112 rfl) rfl
theorem q138 : (Jvm.Cond.code ({ cls := "GoBoard", name := "captured", desc := "(I)I" } : Jvm.MethodName) prog_1_method_17_code (2 : Nat) (Option.some Jvm.ClassFile.FieldType.int)) ∈ lw_all := lw_g (lw_at lw_m1 113 rfl) rfl
theorem q140 : (Jvm.Cond.instanceMethod ({ cls := "GoBoard", name := "groupSize", desc := "(I)I" } : Jvm.MethodName)) ∈ lw_all := lw_g (lw_at lw_m1 115 rfl) rfl
theorem q141 : (Jvm.Cond.selects "GoBoard" ({ cls := "GoBoard", name := "groupSize", desc := "(I)I" } : Jvm.MethodName) ({ cls := "GoBoard", name := "groupSize", desc := "(I)I" } : Jvm.MethodName)) ∈ lw_all := lw_g (lw_at lw_m1 116 rfl) rfl
theorem q142 : (Jvm.Cond.code ({ cls := "GoBoard", name := "groupSize", desc := "(I)I" } : Jvm.MethodName) prog_1_method_19_code (5 : Nat) (Option.some Jvm.ClassFile.FieldType.int)) ∈ lw_all := lw_g (lw_at lw_m1 117 rfl) rfl
theorem q143 : (Jvm.Cond.methodLink "GoBoard" (87 : Nat) ({ cls := "GoBoard", name := "at", desc := "(I)I" } : Jvm.MethodName)) ∈ lw_all := lw_g (lw_at lw_m1 118 rfl) rfl
theorem q144 : (Jvm.Cond.methodLink "GoBoard" (91 : Nat) ({ cls := "GoBoard", name := "groupAt", desc := "(I)J" } : Jvm.MethodName)) ∈ lw_all := lw_g (lw_at lw_m1 119 rfl) rfl
theorem q145 : (Jvm.Cond.privateMethod ({ cls := "GoBoard", name := "groupAt", desc := "(I)J" } : Jvm.MethodName)) ∈ lw_tbl := lw_at lw_m1 120 rfl
theorem q146 : (Jvm.Cond.instanceMethod ({ cls := "GoBoard", name := "groupAt", desc := "(I)J" } : Jvm.MethodName)) ∈ lw_all := lw_g (lw_at lw_m1 121 rfl) rfl
theorem q147 : (Jvm.Cond.code ({ cls := "GoBoard", name := "groupAt", desc := "(I)J" } : Jvm.MethodName) prog_1_method_18_code (4 : Nat) (Option.some Jvm.ClassFile.FieldType.long)) ∈ lw_all := lw_g (lw_at lw_m1 122 rfl) rfl
theorem q149 : (Jvm.Cond.instanceMethod ({ cls := "GoBoard", name := "liberties", desc := "(I)I" } : Jvm.MethodName)) ∈ lw_all := lw_g (lw_at lw_m1 124 rfl) rfl
theorem q150 : (Jvm.Cond.selects "GoBoard" ({ cls := "GoBoard", name := "liberties", desc := "(I)I" } : Jvm.MethodName) ({ cls := "GoBoard", name := "liberties", desc := "(I)I" } : Jvm.MethodName)) ∈ lw_all := lw_g (lw_at lw_m1 125 rfl) rfl
theorem q151 : (Jvm.Cond.code ({ cls := "GoBoard", name := "liberties", desc := "(I)I" } : Jvm.MethodName) prog_1_method_20_code (9 : Nat) (Option.some Jvm.ClassFile.FieldType.int)) ∈ lw_all := lw_g (lw_at lw_m1 126 rfl) rfl
theorem q152 : (Jvm.Cond.methodLink "GoBoard" (94 : Nat) ({ cls := "GoBoard", name := "empty", desc := "()J" } : Jvm.MethodName)) ∈ lw_all := lw_g (lw_at lw_m1 127 rfl) rfl
theorem q153 : (Jvm.Cond.privateMethod ({ cls := "GoBoard", name := "empty", desc := "()J" } : Jvm.MethodName)) ∈ lw_tbl := lw_at lw_m1 128 rfl
theorem q154 : (Jvm.Cond.instanceMethod ({ cls := "GoBoard", name := "empty", desc := "()J" } : Jvm.MethodName)) ∈ lw_all := lw_g (lw_at lw_m1 129 rfl) rfl
theorem q155 : (Jvm.Cond.code ({ cls := "GoBoard", name := "empty", desc := "()J" } : Jvm.MethodName) prog_1_method_6_code (1 : Nat) (Option.some Jvm.ClassFile.FieldType.long)) ∈ lw_all := lw_g (lw_at lw_m1 130 rfl) rfl
theorem q157 : (Jvm.Cond.instanceMethod ({ cls := "GoBoard", name := "trial", desc := "(II)I" } : Jvm.MethodName)) ∈ lw_all := lw_g (lw_at lw_m1 132 rfl) rfl
theorem q158 : (Jvm.Cond.selects "GoBoard" ({ cls := "GoBoard", name := "trial", desc := "(II)I" } : Jvm.MethodName) ({ cls := "GoBoard", name := "trial", desc := "(II)I" } : Jvm.MethodName)) ∈ lw_all := lw_g (lw_at lw_m1 133 rfl) rfl
theorem q159 : (Jvm.Cond.code ({ cls := "GoBoard", name := "trial", desc := "(II)I" } : Jvm.MethodName) prog_1_method_21_code (3 : Nat) (Option.some Jvm.ClassFile.FieldType.int)) ∈ lw_all := lw_g (lw_at lw_m1 134 rfl) rfl
theorem q161 : (Jvm.Cond.instanceMethod ({ cls := "GoBoard", name := "moves", desc := "(I)I" } : Jvm.MethodName)) ∈ lw_all := lw_g (lw_at lw_m1 136 rfl) rfl
theorem q162 : (Jvm.Cond.selects "GoBoard" ({ cls := "GoBoard", name := "moves", desc := "(I)I" } : Jvm.MethodName) ({ cls := "GoBoard", name := "moves", desc := "(I)I" } : Jvm.MethodName)) ∈ lw_all := lw_g (lw_at lw_m1 137 rfl) rfl
theorem q163 : (Jvm.Cond.code ({ cls := "GoBoard", name := "moves", desc := "(I)I" } : Jvm.MethodName) prog_1_method_22_code (5 : Nat) (Option.some Jvm.ClassFile.FieldType.int)) ∈ lw_all := lw_g (lw_at lw_m1 138 rfl) rfl
theorem q165 : (Jvm.Cond.instanceMethod ({ cls := "GoBoard", name := "groups", desc := "(I)I" } : Jvm.MethodName)) ∈ lw_all := lw_g (lw_at lw_m1 140 rfl) rfl
theorem q166 : (Jvm.Cond.selects "GoBoard" ({ cls := "GoBoard", name := "groups", desc := "(I)I" } : Jvm.MethodName) ({ cls := "GoBoard", name := "groups", desc := "(I)I" } : Jvm.MethodName)) ∈ lw_all := lw_g (lw_at lw_m1 141 rfl) rfl
theorem q167 : (Jvm.Cond.code ({ cls := "GoBoard", name := "groups", desc := "(I)I" } : Jvm.MethodName) prog_1_method_24_code (10 : Nat) (Option.some Jvm.ClassFile.FieldType.int)) ∈ lw_all := lw_g (lw_at lw_m1 142 rfl) rfl
theorem q168 : (Jvm.Cond.methodLink "GoBoard" (98 : Nat) ({ cls := "GoBoard", name := "lowest", desc := "(J)J" } : Jvm.MethodName)) ∈ lw_all := lw_g (lw_at lw_m1 143 rfl) rfl
theorem q169 : (Jvm.Cond.privateMethod ({ cls := "GoBoard", name := "lowest", desc := "(J)J" } : Jvm.MethodName)) ∈ lw_tbl := lw_at lw_m1 144 rfl
theorem q170 : (Jvm.Cond.instanceMethod ({ cls := "GoBoard", name := "lowest", desc := "(J)J" } : Jvm.MethodName)) ∈ lw_all := lw_g (lw_at lw_m1 145 rfl) rfl
theorem q171 : (Jvm.Cond.code ({ cls := "GoBoard", name := "lowest", desc := "(J)J" } : Jvm.MethodName) prog_1_method_23_code (3 : Nat) (Option.some Jvm.ClassFile.FieldType.long)) ∈ lw_all := lw_g (lw_at lw_m1 146 rfl) rfl
theorem q173 : (Jvm.Cond.instanceMethod ({ cls := "GoBoard", name := "inAtari", desc := "(I)I" } : Jvm.MethodName)) ∈ lw_all := lw_g (lw_at lw_m1 148 rfl) rfl
theorem q174 : (Jvm.Cond.selects "GoBoard" ({ cls := "GoBoard", name := "inAtari", desc := "(I)I" } : Jvm.MethodName) ({ cls := "GoBoard", name := "inAtari", desc := "(I)I" } : Jvm.MethodName)) ∈ lw_all := lw_g (lw_at lw_m1 149 rfl) rfl
theorem q175 : (Jvm.Cond.code ({ cls := "GoBoard", name := "inAtari", desc := "(I)I" } : Jvm.MethodName) prog_1_method_25_code (15 : Nat) (Option.some Jvm.ClassFile.FieldType.int)) ∈ lw_all := lw_g (lw_at lw_m1 150 rfl) rfl
theorem q177 : (Jvm.Cond.instanceMethod ({ cls := "GoBoard", name := "score", desc := "(I)I" } : Jvm.MethodName)) ∈ lw_all := lw_g (lw_at lw_m1 152 rfl) rfl
theorem q178 : (Jvm.Cond.selects "GoBoard" ({ cls := "GoBoard", name := "score", desc := "(I)I" } : Jvm.MethodName) ({ cls := "GoBoard", name := "score", desc := "(I)I" } : Jvm.MethodName)) ∈ lw_all := lw_g (lw_at lw_m1 153 rfl) rfl
theorem q179 : (Jvm.Cond.code ({ cls := "GoBoard", name := "score", desc := "(I)I" } : Jvm.MethodName) prog_1_method_26_code (16 : Nat) (Option.some Jvm.ClassFile.FieldType.int)) ∈ lw_all := lw_g (lw_at lw_m1 154 rfl) rfl
theorem q181 : (Jvm.Cond.instanceMethod ({ cls := "GoBoard", name := "region", desc := "(I)I" } : Jvm.MethodName)) ∈ lw_all := lw_g (lw_at lw_m1 156 rfl) rfl
theorem q182 : (Jvm.Cond.selects "GoBoard" ({ cls := "GoBoard", name := "region", desc := "(I)I" } : Jvm.MethodName) ({ cls := "GoBoard", name := "region", desc := "(I)I" } : Jvm.MethodName)) ∈ lw_all := lw_g (lw_at lw_m1 157 rfl) rfl
theorem q183 : (Jvm.Cond.code ({ cls := "GoBoard", name := "region", desc := "(I)I" } : Jvm.MethodName) prog_1_method_27_code (8 : Nat) (Option.some Jvm.ClassFile.FieldType.int)) ∈ lw_all := lw_g (lw_at lw_m1 158 rfl) rfl
theorem q185 : (Jvm.Cond.instanceMethod ({ cls := "GoBoard", name := "done", desc := "()I" } : Jvm.MethodName)) ∈ lw_all := lw_g (lw_at lw_m1 160 rfl) rfl
theorem q186 : (Jvm.Cond.selects "GoBoard" ({ cls := "GoBoard", name := "done", desc := "()I" } : Jvm.MethodName) ({ cls := "GoBoard", name := "done", desc := "()I" } : Jvm.MethodName)) ∈ lw_all := lw_g (lw_at lw_m1 161 rfl) rfl
theorem q187 : (Jvm.Cond.code ({ cls := "GoBoard", name := "done", desc := "()I" } : Jvm.MethodName) prog_1_method_28_code (1 : Nat) (Option.some Jvm.ClassFile.FieldType.int)) ∈ lw_all := lw_g (lw_at lw_m1 162 rfl) rfl
theorem in_X0 : ∀ w ∈ wsX00, w ∈ lw_all := lw_in wsX00 [50, 52, 54, 56, 58, 60, 62, 64, 66, 68, 70, 72, 74] (by decide +kernel) (by decide +kernel)
end
section
/-! GoBoardModel -/
set_option maxRecDepth 100000
def RX1 : String := "GoBoardModel"
def TX1 : u_T := fun k => match k with
  | 0 => ("GoBoardModel", "board", "[I", true)
  | 1 => ("GoBoardModel", "history", "[I", true)
  | 2 => ("GoBoardModel", "historyFirst", "[I", true)
  | 3 => ("GoBoardModel", "historySecond", "[I", true)
  | 4 => ("GoBoardModel", "done", "I", false)
  | 5 => ("GoBoardModel", "captures", "[I", true)
  | 6 => ("GoBoardModel", "reached", "[Z", true)
  | 7 => ("GoBoardModel", "dead", "[I", true)
  | _ => ("GoBoardModel", "kept", "[I", true)
def tyX1 : Nat → FieldType := fun k => match k with
  | 0 => .array .int
  | 1 => .array .int
  | 2 => .array .int
  | 3 => .array .int
  | 4 => .int
  | 5 => .array .int
  | 6 => .array .boolean
  | 7 => .array .int
  | _ => .array .int
abbrev wsX10 : List Cond := u_ws RX1 TX1 9
theorem nmX1 : ∀ a, a < 9 → ∀ b, b < 9 → a ≠ b → (TX1 a).2.1 ≠ (TX1 b).2.1 := by decide +kernel
theorem tyX1_ok : ∀ k, k < 9 → parseFieldDescriptor (TX1 k).2.2.1 = some (tyX1 k) := by decide +kernel
abbrev cX1_init : ByteArray := prog_3_method_1_code
def yX1_init : MethodName := ⟨RX1, "<init>", "()V"⟩
abbrev cX1_play : ByteArray := prog_3_method_13_code
def yX1_play : MethodName := ⟨RX1, "play", "(II)I"⟩
abbrev cX1_isPlayer : ByteArray := prog_3_method_3_code
def yX1_isPlayer : MethodName := ⟨RX1, "isPlayer", "(I)Z"⟩
abbrev cX1_isPoint : ByteArray := prog_3_method_2_code
def yX1_isPoint : MethodName := ⟨RX1, "isPoint", "(I)Z"⟩
abbrev cX1_tryMove : ByteArray := prog_3_method_9_code
def yX1_tryMove : MethodName := ⟨RX1, "tryMove", "(II)I"⟩
abbrev cX1_putAndCapture : ByteArray := prog_3_method_8_code
def yX1_putAndCapture : MethodName := ⟨RX1, "putAndCapture", "(II)I"⟩
abbrev cX1_reachFrom : ByteArray := prog_3_method_6_code
def yX1_reachFrom : MethodName := ⟨RX1, "reachFrom", "(I)I"⟩
abbrev cX1_besides : ByteArray := prog_3_method_5_code
def yX1_besides : MethodName := ⟨RX1, "besides", "(IIZ)Z"⟩
abbrev cX1_neighbour : ByteArray := prog_3_method_4_code
def yX1_neighbour : MethodName := ⟨RX1, "neighbour", "(II)I"⟩
abbrev cX1_countLiberties : ByteArray := prog_3_method_7_code
def yX1_countLiberties : MethodName := ⟨RX1, "countLiberties", "()I"⟩
abbrev cX1_isAsBefore : ByteArray := prog_3_method_11_code
def yX1_isAsBefore : MethodName := ⟨RX1, "isAsBefore", "(I)Z"⟩
abbrev cX1_putBack : ByteArray := prog_3_method_10_code
def yX1_putBack : MethodName := ⟨RX1, "putBack", "()V"⟩
abbrev cX1_note : ByteArray := prog_3_method_12_code
def yX1_note : MethodName := ⟨RX1, "note", "()V"⟩
abbrev cX1_pass : ByteArray := prog_3_method_14_code
def yX1_pass : MethodName := ⟨RX1, "pass", "()I"⟩
abbrev cX1_undo : ByteArray := prog_3_method_15_code
def yX1_undo : MethodName := ⟨RX1, "undo", "()I"⟩
abbrev cX1_set : ByteArray := prog_3_method_16_code
def yX1_set : MethodName := ⟨RX1, "set", "(II)I"⟩
abbrev cX1_at : ByteArray := prog_3_method_17_code
def yX1_at : MethodName := ⟨RX1, "at", "(I)I"⟩
abbrev cX1_captured : ByteArray := prog_3_method_18_code
def yX1_captured : MethodName := ⟨RX1, "captured", "(I)I"⟩
abbrev cX1_groupSize : ByteArray := prog_3_method_19_code
def yX1_groupSize : MethodName := ⟨RX1, "groupSize", "(I)I"⟩
abbrev cX1_liberties : ByteArray := prog_3_method_20_code
def yX1_liberties : MethodName := ⟨RX1, "liberties", "(I)I"⟩
abbrev cX1_trial : ByteArray := prog_3_method_21_code
def yX1_trial : MethodName := ⟨RX1, "trial", "(II)I"⟩
abbrev cX1_moves : ByteArray := prog_3_method_22_code
def yX1_moves : MethodName := ⟨RX1, "moves", "(I)I"⟩
abbrev cX1_groups : ByteArray := prog_3_method_24_code
def yX1_groups : MethodName := ⟨RX1, "groups", "(I)I"⟩
abbrev cX1_firstReached : ByteArray := prog_3_method_23_code
def yX1_firstReached : MethodName := ⟨RX1, "firstReached", "()I"⟩
abbrev cX1_inAtari : ByteArray := prog_3_method_25_code
def yX1_inAtari : MethodName := ⟨RX1, "inAtari", "(I)I"⟩
abbrev cX1_score : ByteArray := prog_3_method_27_code
def yX1_score : MethodName := ⟨RX1, "score", "(I)I"⟩
abbrev cX1_touches : ByteArray := prog_3_method_26_code
def yX1_touches : MethodName := ⟨RX1, "touches", "(I)Z"⟩
abbrev cX1_region : ByteArray := prog_3_method_28_code
def yX1_region : MethodName := ⟨RX1, "region", "(I)I"⟩
abbrev cX1_done : ByteArray := prog_3_method_29_code
def yX1_done : MethodName := ⟨RX1, "done", "()I"⟩
theorem q27 : (Jvm.Cond.initialized "GoBoardModel") ∈ lw_all := lw_g (lw_at lw_m1 2 rfl) rfl
theorem q189 : (Jvm.Cond.instantiable "GoBoardModel" (9 : Nat)) ∈ lw_all := lw_g (lw_at lw_m1 164 rfl) rfl
theorem q191 : (Jvm.Cond.instanceMethod ({ cls := "GoBoardModel", name := "<init>", desc := "()V" } : Jvm.MethodName)) ∈ lw_all := lw_g (lw_at lw_m1 166 rfl) rfl
theorem q192 : (Jvm.Cond.code ({ cls := "GoBoardModel", name := "<init>", desc := "()V" } : Jvm.MethodName) prog_3_method_1_code (2 : Nat) (Option.none : Option Jvm.ClassFile.FieldType)) ∈ lw_all := lw_g (lw_at lw_m1 167 rfl) rfl
theorem q193 : (Jvm.Cond.methodLink "GoBoardModel" (1 : Nat) ({ cls := "java/lang/Object", name := "<init>", desc := "()V" } : Jvm.MethodName)) ∈ lw_all := lw_g (lw_at lw_m1 168 rfl) rfl
theorem q194 : (Jvm.Cond.fieldLink "GoBoardModel" (7 : Nat) "GoBoardModel" "board" "[I") ∈ lw_all := lw_g (lw_at lw_m1 169 rfl) rfl
theorem q195 : (Jvm.Cond.fieldLink "GoBoardModel" (13 : Nat) "GoBoardModel" "history" "[I") ∈ lw_all := lw_g (lw_at lw_m1 170 rfl) rfl
theorem q196 : (Jvm.Cond.fieldLink "GoBoardModel" (16 : Nat) "GoBoardModel" "historyFirst" "[I") ∈ lw_all := lw_g (lw_at lw_m1 171 rfl) rfl
theorem q197 : (Jvm.Cond.fieldLink "GoBoardModel" (19 : Nat) "GoBoardModel" "historySecond" "[I") ∈ lw_all := lw_g (lw_at lw_m1 172 rfl) rfl
theorem q198 : (Jvm.Cond.fieldLink "GoBoardModel" (54 : Nat) "GoBoardModel" "done" "I") ∈ lw_all := lw_g (lw_at lw_m1 173 rfl) rfl
theorem q199 : (Jvm.Cond.fieldLink "GoBoardModel" (22 : Nat) "GoBoardModel" "captures" "[I") ∈ lw_all := lw_g (lw_at lw_m1 174 rfl) rfl
theorem q200 : (Jvm.Cond.fieldLink "GoBoardModel" (25 : Nat) "GoBoardModel" "reached" "[Z") ∈ lw_all := lw_g (lw_at lw_m1 175 rfl) rfl
theorem q201 : (Jvm.Cond.fieldLink "GoBoardModel" (29 : Nat) "GoBoardModel" "dead" "[I") ∈ lw_all := lw_g (lw_at lw_m1 176 rfl) rfl
theorem q202 : (Jvm.Cond.fieldLink "GoBoardModel" (32 : Nat) "GoBoardModel" "kept" "[I") ∈ lw_all := lw_g (lw_at lw_m1 177 rfl) rfl
theorem q203 : (Jvm.Cond.laysFinal "GoBoardModel" "GoBoardModel" "board" "[I") ∈ lw_all := lw_g (lw_at lw_m1 178 rfl) rfl
theorem q204 : (Jvm.Cond.soleField "GoBoardModel" "board") ∈ lw_all := lw_g (lw_at lw_m1 179 rfl) rfl
theorem q205 : (Jvm.Cond.laysFinal "GoBoardModel" "GoBoardModel" "history" "[I") ∈ lw_all := lw_g (lw_at lw_m1 180 rfl) rfl
theorem q206 : (Jvm.Cond.soleField "GoBoardModel" "history") ∈ lw_all := lw_g (lw_at lw_m1 181 rfl) rfl
theorem q207 : (Jvm.Cond.laysFinal "GoBoardModel" "GoBoardModel" "historyFirst" "[I") ∈ lw_all := lw_g (lw_at lw_m1 182 rfl) rfl
theorem q208 : (Jvm.Cond.soleField "GoBoardModel" "historyFirst") ∈ lw_all := lw_g (lw_at lw_m1 183 rfl) rfl
theorem q209 : (Jvm.Cond.laysFinal "GoBoardModel" "GoBoardModel" "historySecond" "[I") ∈ lw_all := lw_g (lw_at lw_m1 184 rfl) rfl
theorem q210 : (Jvm.Cond.soleField "GoBoardModel" "historySecond") ∈ lw_all := lw_g (lw_at lw_m1 185 rfl) rfl
theorem q211 : (Jvm.Cond.lays "GoBoardModel" "GoBoardModel" "done" "I") ∈ lw_all := lw_g (lw_at lw_m1 186 rfl) rfl
theorem q212 : (Jvm.Cond.soleField "GoBoardModel" "done") ∈ lw_all := lw_g (lw_at lw_m1 187 rfl) rfl
theorem q213 : (Jvm.Cond.laysFinal "GoBoardModel" "GoBoardModel" "captures" "[I") ∈ lw_all := lw_g (lw_at lw_m1 188 rfl) rfl
theorem q214 : (Jvm.Cond.soleField "GoBoardModel" "captures") ∈ lw_all := lw_g (lw_at lw_m1 189 rfl) rfl
theorem q215 : (Jvm.Cond.laysFinal "GoBoardModel" "GoBoardModel" "reached" "[Z") ∈ lw_all := lw_g (lw_at lw_m1 190 rfl) rfl
theorem q216 : (Jvm.Cond.soleField "GoBoardModel" "reached") ∈ lw_all := lw_g (lw_at lw_m1 191 rfl) rfl
theorem q217 : (Jvm.Cond.laysFinal "GoBoardModel" "GoBoardModel" "dead" "[I") ∈ lw_all := lw_g (lw_at lw_m1 192 rfl) rfl
theorem q218 : (Jvm.Cond.soleField "GoBoardModel" "dead") ∈ lw_all := lw_g (lw_at lw_m1 193 rfl) rfl
theorem q219 : (Jvm.Cond.laysFinal "GoBoardModel" "GoBoardModel" "kept" "[I") ∈ lw_all := lw_g (lw_at lw_m1 194 rfl) rfl
theorem q220 : (Jvm.Cond.soleField "GoBoardModel" "kept") ∈ lw_all := lw_g (lw_at lw_m1 195 rfl) rfl
theorem q221 : (Jvm.Cond.superclass "GoBoardModel" "java/lang/Object") ∈ lw_all := lw_g (lw_at lw_m1 196 rfl) rfl
theorem q224 : (Jvm.Cond.instanceMethod ({ cls := "GoBoardModel", name := "play", desc := "(II)I" } : Jvm.MethodName)) ∈ lw_all := lw_g (lw_at lw_m1 199 rfl) rfl
theorem q225 : (Jvm.Cond.selects "GoBoardModel" ({ cls := "GoBoardModel", name := "play", desc := "(II)I" } : Jvm.MethodName) ({ cls := "GoBoardModel", name := "play", desc := "(II)I" } : Jvm.MethodName)) ∈ lw_all := lw_g (lw_at lw_m1 200 rfl) rfl
theorem q226 : (Jvm.Cond.code ({ cls := "GoBoardModel", name := "play", desc := "(II)I" } : Jvm.MethodName) prog_3_method_13_code (4 : Nat) (Option.some Jvm.ClassFile.FieldType.int)) ∈ lw_all := lw_g (lw_at lw_m1 201 rfl) rfl
theorem q227 : (Jvm.Cond.methodLink "GoBoardModel" (62 : Nat) ({ cls := "GoBoardModel", name := "isPlayer", desc := "(I)Z" } : Jvm.MethodName)) ∈ lw_all := lw_g (lw_at lw_m1 202 rfl) rfl
theorem q228 : (Jvm.Cond.privateMethod ({ cls := "GoBoardModel", name := "isPlayer", desc := "(I)Z" } : Jvm.MethodName)) ∈ lw_tbl := lw_at lw_m1 203 rfl
theorem q229 : (Jvm.Cond.instanceMethod ({ cls := "GoBoardModel", name := "isPlayer", desc := "(I)Z" } : Jvm.MethodName)) ∈ lw_all := lw_g (lw_at lw_m1 204 rfl) rfl
theorem q230 : (Jvm.Cond.code ({ cls := "GoBoardModel", name := "isPlayer", desc := "(I)Z" } : Jvm.MethodName) prog_3_method_3_code (2 : Nat) (Option.some Jvm.ClassFile.FieldType.boolean)) ∈ lw_all := lw_g (lw_at lw_m1 205 rfl) rfl
theorem q231 : (Jvm.Cond.methodLink "GoBoardModel" (65 : Nat) ({ cls := "GoBoardModel", name := "isPoint", desc := "(I)Z" } : Jvm.MethodName)) ∈ lw_all := lw_g (lw_at lw_m1 206 rfl) rfl
theorem q232 : (Jvm.Cond.privateMethod ({ cls := "GoBoardModel", name := "isPoint", desc := "(I)Z" } : Jvm.MethodName)) ∈ lw_tbl := lw_at lw_m1 207 rfl
theorem q233 : (Jvm.Cond.instanceMethod ({ cls := "GoBoardModel", name := "isPoint", desc := "(I)Z" } : Jvm.MethodName)) ∈ lw_all := lw_g (lw_at lw_m1 208 rfl) rfl
theorem q234 : (Jvm.Cond.code ({ cls := "GoBoardModel", name := "isPoint", desc := "(I)Z" } : Jvm.MethodName) prog_3_method_2_code (2 : Nat) (Option.some Jvm.ClassFile.FieldType.boolean)) ∈ lw_all := lw_g (lw_at lw_m1 209 rfl) rfl
theorem q235 : (Jvm.Cond.methodLink "GoBoardModel" (68 : Nat) ({ cls := "GoBoardModel", name := "tryMove", desc := "(II)I" } : Jvm.MethodName)) ∈ lw_all := lw_g (lw_at lw_m1 210 rfl) rfl
theorem q236 : (Jvm.Cond.privateMethod ({ cls := "GoBoardModel", name := "tryMove", desc := "(II)I" } : Jvm.MethodName)) ∈ lw_tbl := lw_at lw_m1 211 rfl
theorem q237 : (Jvm.Cond.instanceMethod ({ cls := "GoBoardModel", name := "tryMove", desc := "(II)I" } : Jvm.MethodName)) ∈ lw_all := lw_g (lw_at lw_m1 212 rfl) rfl
theorem q238 : (Jvm.Cond.code ({ cls := "GoBoardModel", name := "tryMove", desc := "(II)I" } : Jvm.MethodName) prog_3_method_9_code (4 : Nat) (Option.some Jvm.ClassFile.FieldType.int)) ∈ lw_all := lw_g (lw_at lw_m1 213 rfl) rfl
theorem q239 : (Jvm.Cond.methodLink "GoBoardModel" (51 : Nat) ({ cls := "GoBoardModel", name := "putAndCapture", desc := "(II)I" } : Jvm.MethodName)) ∈ lw_all := lw_g (lw_at lw_m1 214 rfl) rfl
theorem q240 : (Jvm.Cond.privateMethod ({ cls := "GoBoardModel", name := "putAndCapture", desc := "(II)I" } : Jvm.MethodName)) ∈ lw_tbl := lw_at lw_m1 215 rfl
theorem q241 : (Jvm.Cond.instanceMethod ({ cls := "GoBoardModel", name := "putAndCapture", desc := "(II)I" } : Jvm.MethodName)) ∈ lw_all := lw_g (lw_at lw_m1 216 rfl) rfl
theorem q242 : (Jvm.Cond.code ({ cls := "GoBoardModel", name := "putAndCapture", desc := "(II)I" } : Jvm.MethodName) prog_3_method_8_code (5 : Nat) (Option.some Jvm.ClassFile.FieldType.int)) ∈ lw_all := lw_g (lw_at lw_m1 217 rfl) rfl
theorem q243 : (Jvm.Cond.methodLink "GoBoardModel" (43 : Nat) ({ cls := "GoBoardModel", name := "reachFrom", desc := "(I)I" } : Jvm.MethodName)) ∈ lw_all := lw_g (lw_at lw_m1 218 rfl) rfl
theorem q244 : (Jvm.Cond.privateMethod ({ cls := "GoBoardModel", name := "reachFrom", desc := "(I)I" } : Jvm.MethodName)) ∈ lw_tbl := lw_at lw_m1 219 rfl
theorem q245 : (Jvm.Cond.instanceMethod ({ cls := "GoBoardModel", name := "reachFrom", desc := "(I)I" } : Jvm.MethodName)) ∈ lw_all := lw_g (lw_at lw_m1 220 rfl) rfl
theorem q246 : (Jvm.Cond.code ({ cls := "GoBoardModel", name := "reachFrom", desc := "(I)I" } : Jvm.MethodName) prog_3_method_6_code (5 : Nat) (Option.some Jvm.ClassFile.FieldType.int)) ∈ lw_all := lw_g (lw_at lw_m1 221 rfl) rfl
theorem q247 : (Jvm.Cond.methodLink "GoBoardModel" (39 : Nat) ({ cls := "GoBoardModel", name := "besides", desc := "(IIZ)Z" } : Jvm.MethodName)) ∈ lw_all := lw_g (lw_at lw_m1 222 rfl) rfl
theorem q248 : (Jvm.Cond.privateMethod ({ cls := "GoBoardModel", name := "besides", desc := "(IIZ)Z" } : Jvm.MethodName)) ∈ lw_tbl := lw_at lw_m1 223 rfl
theorem q249 : (Jvm.Cond.instanceMethod ({ cls := "GoBoardModel", name := "besides", desc := "(IIZ)Z" } : Jvm.MethodName)) ∈ lw_all := lw_g (lw_at lw_m1 224 rfl) rfl
theorem q250 : (Jvm.Cond.code ({ cls := "GoBoardModel", name := "besides", desc := "(IIZ)Z" } : Jvm.MethodName) prog_3_method_5_code (6 : Nat) (Option.some Jvm.ClassFile.FieldType.boolean)) ∈ lw_all := lw_g (lw_at lw_m1 225 rfl) rfl
theorem q251 : (Jvm.Cond.methodLink "GoBoardModel" (35 : Nat) ({ cls := "GoBoardModel", name := "neighbour", desc := "(II)I" } : Jvm.MethodName)) ∈ lw_all := lw_g (lw_at lw_m1 226 rfl) rfl
theorem q252 : (Jvm.Cond.privateMethod ({ cls := "GoBoardModel", name := "neighbour", desc := "(II)I" } : Jvm.MethodName)) ∈ lw_tbl := lw_at lw_m1 227 rfl
theorem q253 : (Jvm.Cond.instanceMethod ({ cls := "GoBoardModel", name := "neighbour", desc := "(II)I" } : Jvm.MethodName)) ∈ lw_all := lw_g (lw_at lw_m1 228 rfl) rfl
theorem q254 : (Jvm.Cond.code ({ cls := "GoBoardModel", name := "neighbour", desc := "(II)I" } : Jvm.MethodName) prog_3_method_4_code (3 : Nat) (Option.some Jvm.ClassFile.FieldType.int)) ∈ lw_all := lw_g (lw_at lw_m1 229 rfl) rfl
theorem q255 : (Jvm.Cond.methodLink "GoBoardModel" (47 : Nat) ({ cls := "GoBoardModel", name := "countLiberties", desc := "()I" } : Jvm.MethodName)) ∈ lw_all := lw_g (lw_at lw_m1 230 rfl) rfl
theorem q256 : (Jvm.Cond.privateMethod ({ cls := "GoBoardModel", name := "countLiberties", desc := "()I" } : Jvm.MethodName)) ∈ lw_tbl := lw_at lw_m1 231 rfl
theorem q257 : (Jvm.Cond.instanceMethod ({ cls := "GoBoardModel", name := "countLiberties", desc := "()I" } : Jvm.MethodName)) ∈ lw_all := lw_g (lw_at lw_m1 232 rfl) rfl
theorem q258 : (Jvm.Cond.code ({ cls := "GoBoardModel", name := "countLiberties", desc := "()I" } : Jvm.MethodName) prog_3_method_7_code (6 : Nat) (Option.some Jvm.ClassFile.FieldType.int)) ∈ lw_all := lw_g (lw_at lw_m1 233 rfl) rfl
theorem q259 : (Jvm.Cond.methodLink "GoBoardModel" (58 : Nat) ({ cls := "GoBoardModel", name := "isAsBefore", desc := "(I)Z" } : Jvm.MethodName)) ∈ lw_all := lw_g (lw_at lw_m1 234 rfl) rfl
theorem q260 : (Jvm.Cond.privateMethod ({ cls := "GoBoardModel", name := "isAsBefore", desc := "(I)Z" } : Jvm.MethodName)) ∈ lw_tbl := lw_at lw_m1 235 rfl
theorem q261 : (Jvm.Cond.instanceMethod ({ cls := "GoBoardModel", name := "isAsBefore", desc := "(I)Z" } : Jvm.MethodName)) ∈ lw_all := lw_g (lw_at lw_m1 236 rfl) rfl
theorem q262 : (Jvm.Cond.code ({ cls := "GoBoardModel", name := "isAsBefore", desc := "(I)Z" } : Jvm.MethodName) prog_3_method_11_code (3 : Nat) (Option.some Jvm.ClassFile.FieldType.boolean)) ∈ lw_all := lw_g (lw_at lw_m1 237 rfl) rfl
theorem q263 : (Jvm.Cond.methodLink "GoBoardModel" (71 : Nat) ({ cls := "GoBoardModel", name := "putBack", desc := "()V" } : Jvm.MethodName)) ∈ lw_all := lw_g (lw_at lw_m1 238 rfl) rfl
theorem q264 : (Jvm.Cond.privateMethod ({ cls := "GoBoardModel", name := "putBack", desc := "()V" } : Jvm.MethodName)) ∈ lw_tbl := lw_at lw_m1 239 rfl
theorem q265 : (Jvm.Cond.instanceMethod ({ cls := "GoBoardModel", name := "putBack", desc := "()V" } : Jvm.MethodName)) ∈ lw_all := lw_g (lw_at lw_m2 0 rfl) rfl
theorem q266 : (Jvm.Cond.code ({ cls := "GoBoardModel", name := "putBack", desc := "()V" } : Jvm.MethodName) prog_3_method_10_code (2 : Nat) (Option.none : Option Jvm.ClassFile.FieldType)) ∈ lw_all := lw_g (lw_at lw_m2 1 rfl) rfl
theorem q267 : (Jvm.Cond.methodLink "GoBoardModel" (74 : Nat) ({ cls := "GoBoardModel", name := "note", desc := "()V" } : Jvm.MethodName)) ∈ lw_all := lw_g (lw_at lw_m2 2 rfl) rfl
theorem q268 : (Jvm.Cond.privateMethod ({ cls := "GoBoardModel", name := "note", desc := "()V" } : Jvm.MethodName)) ∈ lw_tbl := lw_at lw_m2 3 rfl
theorem q269 : (Jvm.Cond.instanceMethod ({ cls := "GoBoardModel", name := "note", desc := "()V" } : Jvm.MethodName)) ∈ lw_all := lw_g (lw_at lw_m2 4 rfl) rfl
theorem q270 : (Jvm.Cond.code ({ cls := "GoBoardModel", name := "note", desc := "()V" } : Jvm.MethodName) prog_3_method_12_code (2 : Nat) (Option.none : Option Jvm.ClassFile.FieldType)) ∈ lw_all := lw_g (lw_at lw_m2 5 rfl) rfl
theorem q272 : (Jvm.Cond.instanceMethod ({ cls := "GoBoardModel", name := "pass", desc := "()I" } : Jvm.MethodName)) ∈ lw_all := lw_g (lw_at lw_m2 7 rfl) rfl
theorem q273 : (Jvm.Cond.selects "GoBoardModel" ({ cls := "GoBoardModel", name := "pass", desc := "()I" } : Jvm.MethodName) ({ cls := "GoBoardModel", name := "pass", desc := "()I" } : Jvm.MethodName)) ∈ lw_all := lw_g (lw_at lw_m2 8 rfl) rfl
theorem q274 : (Jvm.Cond.code ({ cls := "GoBoardModel", name := "pass", desc := "()I" } : Jvm.MethodName) prog_3_method_14_code (2 : Nat) (Option.some Jvm.ClassFile.FieldType.int)) ∈ lw_all := lw_g (lw_at lw_m2 9 rfl) rfl
theorem q276 : (Jvm.Cond.instanceMethod ({ cls := "GoBoardModel", name := "undo", desc := "()I" } : Jvm.MethodName)) ∈ lw_all := lw_g (lw_at lw_m2 11 rfl) rfl
theorem q277 : (Jvm.Cond.selects "GoBoardModel" ({ cls := "GoBoardModel", name := "undo", desc := "()I" } : Jvm.MethodName) ({ cls := "GoBoardModel", name := "undo", desc := "()I" } : Jvm.MethodName)) ∈ lw_all := lw_g (lw_at lw_m2 12 rfl) rfl
theorem q278 : (Jvm.Cond.code ({ cls := "GoBoardModel", name := "undo", desc := "()I" } : Jvm.MethodName) prog_3_method_15_code (2 : Nat) (Option.some Jvm.ClassFile.FieldType.int)) ∈ lw_all := lw_g (lw_at lw_m2 13 rfl) rfl
theorem q280 : (Jvm.Cond.instanceMethod ({ cls := "GoBoardModel", name := "set", desc := "(II)I" } : Jvm.MethodName)) ∈ lw_all := lw_g (lw_at lw_m2 15 rfl) rfl
theorem q281 : (Jvm.Cond.selects "GoBoardModel" ({ cls := "GoBoardModel", name := "set", desc := "(II)I" } : Jvm.MethodName) ({ cls := "GoBoardModel", name := "set", desc := "(II)I" } : Jvm.MethodName)) ∈ lw_all := lw_g (lw_at lw_m2 16 rfl) rfl
theorem q282 : (Jvm.Cond.code ({ cls := "GoBoardModel", name := "set", desc := "(II)I" } : Jvm.MethodName) prog_3_method_16_code (3 : Nat) (Option.some Jvm.ClassFile.FieldType.int)) ∈ lw_all := lw_g (lw_at lw_m2 17 rfl) rfl
theorem q284 : (Jvm.Cond.instanceMethod ({ cls := "GoBoardModel", name := "at", desc := "(I)I" } : Jvm.MethodName)) ∈ lw_all := lw_g (lw_at lw_m2 19 rfl) rfl
theorem q285 : (Jvm.Cond.selects "GoBoardModel" ({ cls := "GoBoardModel", name := "at", desc := "(I)I" } : Jvm.MethodName) ({ cls := "GoBoardModel", name := "at", desc := "(I)I" } : Jvm.MethodName)) ∈ lw_all := lw_g (lw_at lw_m2 20 rfl) rfl
theorem q286 : (Jvm.Cond.code ({ cls := "GoBoardModel", name := "at", desc := "(I)I" } : Jvm.MethodName) prog_3_method_17_code (2 : Nat) (Option.some Jvm.ClassFile.FieldType.int)) ∈ lw_all := lw_g (lw_at lw_m2 21 rfl) rfl
theorem q288 : (Jvm.Cond.instanceMethod ({ cls := "GoBoardModel", name := "captured", desc := "(I)I" } : Jvm.MethodName)) ∈ lw_all := lw_g (lw_at lw_m2 23 rfl) rfl
theorem q289 : (Jvm.Cond.selects "GoBoardModel" ({ cls := "GoBoardModel", name := "captured", desc := "(I)I" } : Jvm.MethodName) ({ cls := "GoBoardModel", name := "captured", desc := "(I)I" } : Jvm.MethodName)) ∈ lw_all := lw_g (lw_at lw_m2 24 rfl) rfl
theorem q290 : (Jvm.Cond.code ({ cls := "GoBoardModel", name := "captured", desc := "(I)I" } : Jvm.MethodName) prog_3_method_18_code (2 : Nat) (Option.some Jvm.ClassFile.FieldType.int)) ∈ lw_all := lw_g (lw_at lw_m2 25 rfl) rfl
theorem q292 : (Jvm.Cond.instanceMethod ({ cls := "GoBoardModel", name := "groupSize", desc := "(I)I" } : Jvm.MethodName)) ∈ lw_all := lw_g (lw_at lw_m2 27 rfl) rfl
theorem q293 : (Jvm.Cond.selects "GoBoardModel" ({ cls := "GoBoardModel", name := "groupSize", desc := "(I)I" } : Jvm.MethodName) ({ cls := "GoBoardModel", name := "groupSize", desc := "(I)I" } : Jvm.MethodName)) ∈ lw_all := lw_g (lw_at lw_m2 28 rfl) rfl
theorem q294 : (Jvm.Cond.code ({ cls := "GoBoardModel", name := "groupSize", desc := "(I)I" } : Jvm.MethodName) prog_3_method_19_code (2 : Nat) (Option.some Jvm.ClassFile.FieldType.int)) ∈ lw_all := lw_g (lw_at lw_m2 29 rfl) rfl
theorem q296 : (Jvm.Cond.instanceMethod ({ cls := "GoBoardModel", name := "liberties", desc := "(I)I" } : Jvm.MethodName)) ∈ lw_all := lw_g (lw_at lw_m2 31 rfl) rfl
theorem q297 : (Jvm.Cond.selects "GoBoardModel" ({ cls := "GoBoardModel", name := "liberties", desc := "(I)I" } : Jvm.MethodName) ({ cls := "GoBoardModel", name := "liberties", desc := "(I)I" } : Jvm.MethodName)) ∈ lw_all := lw_g (lw_at lw_m2 32 rfl) rfl
theorem q298 : (Jvm.Cond.code ({ cls := "GoBoardModel", name := "liberties", desc := "(I)I" } : Jvm.MethodName) prog_3_method_20_code (2 : Nat) (Option.some Jvm.ClassFile.FieldType.int)) ∈ lw_all := lw_g (lw_at lw_m2 33 rfl) rfl
theorem q300 : (Jvm.Cond.instanceMethod ({ cls := "GoBoardModel", name := "trial", desc := "(II)I" } : Jvm.MethodName)) ∈ lw_all := lw_g (lw_at lw_m2 35 rfl) rfl
theorem q301 : (Jvm.Cond.selects "GoBoardModel" ({ cls := "GoBoardModel", name := "trial", desc := "(II)I" } : Jvm.MethodName) ({ cls := "GoBoardModel", name := "trial", desc := "(II)I" } : Jvm.MethodName)) ∈ lw_all := lw_g (lw_at lw_m2 36 rfl) rfl
theorem q302 : (Jvm.Cond.code ({ cls := "GoBoardModel", name := "trial", desc := "(II)I" } : Jvm.MethodName) prog_3_method_21_code (4 : Nat) (Option.some Jvm.ClassFile.FieldType.int)) ∈ lw_all := lw_g (lw_at lw_m2 37 rfl) rfl
theorem q304 : (Jvm.Cond.instanceMethod ({ cls := "GoBoardModel", name := "moves", desc := "(I)I" } : Jvm.MethodName)) ∈ lw_all := lw_g (lw_at lw_m2 39 rfl) rfl
theorem q305 : (Jvm.Cond.selects "GoBoardModel" ({ cls := "GoBoardModel", name := "moves", desc := "(I)I" } : Jvm.MethodName) ({ cls := "GoBoardModel", name := "moves", desc := "(I)I" } : Jvm.MethodName)) ∈ lw_all := lw_g (lw_at lw_m2 40 rfl) rfl
theorem q306 : (Jvm.Cond.code ({ cls := "GoBoardModel", name := "moves", desc := "(I)I" } : Jvm.MethodName) prog_3_method_22_code (4 : Nat) (Option.some Jvm.ClassFile.FieldType.int)) ∈ lw_all := lw_g (lw_at lw_m2 41 rfl) rfl
theorem q307 : (Jvm.Cond.methodLink "GoBoardModel" (77 : Nat) ({ cls := "GoBoardModel", name := "trial", desc := "(II)I" } : Jvm.MethodName)) ∈ lw_all := lw_g (lw_at lw_m2 42 rfl) rfl
theorem q309 : (Jvm.Cond.instanceMethod ({ cls := "GoBoardModel", name := "groups", desc := "(I)I" } : Jvm.MethodName)) ∈ lw_all := lw_g (lw_at lw_m2 44 rfl) rfl
theorem q310 : (Jvm.Cond.selects "GoBoardModel" ({ cls := "GoBoardModel", name := "groups", desc := "(I)I" } : Jvm.MethodName) ({ cls := "GoBoardModel", name := "groups", desc := "(I)I" } : Jvm.MethodName)) ∈ lw_all := lw_g (lw_at lw_m2 45 rfl) rfl
theorem q311 : (Jvm.Cond.code ({ cls := "GoBoardModel", name := "groups", desc := "(I)I" } : Jvm.MethodName) prog_3_method_24_code (4 : Nat) (Option.some Jvm.ClassFile.FieldType.int)) ∈ lw_all := lw_g (lw_at lw_m2 46 rfl) rfl
theorem q312 : (Jvm.Cond.methodLink "GoBoardModel" (80 : Nat) ({ cls := "GoBoardModel", name := "firstReached", desc := "()I" } : Jvm.MethodName)) ∈ lw_all := lw_g (lw_at lw_m2 47 rfl) rfl
theorem q313 : (Jvm.Cond.privateMethod ({ cls := "GoBoardModel", name := "firstReached", desc := "()I" } : Jvm.MethodName)) ∈ lw_tbl := lw_at lw_m2 48 rfl
theorem q314 : (Jvm.Cond.instanceMethod ({ cls := "GoBoardModel", name := "firstReached", desc := "()I" } : Jvm.MethodName)) ∈ lw_all := lw_g (lw_at lw_m2 49 rfl) rfl
theorem q315 : (Jvm.Cond.code ({ cls := "GoBoardModel", name := "firstReached", desc := "()I" } : Jvm.MethodName) prog_3_method_23_code (3 : Nat) (Option.some Jvm.ClassFile.FieldType.int)) ∈ lw_all := lw_g (lw_at lw_m2 50 rfl) rfl
theorem q317 : (Jvm.Cond.instanceMethod ({ cls := "GoBoardModel", name := "inAtari", desc := "(I)I" } : Jvm.MethodName)) ∈ lw_all := lw_g (lw_at lw_m2 52 rfl) rfl
theorem q318 : (Jvm.Cond.selects "GoBoardModel" ({ cls := "GoBoardModel", name := "inAtari", desc := "(I)I" } : Jvm.MethodName) ({ cls := "GoBoardModel", name := "inAtari", desc := "(I)I" } : Jvm.MethodName)) ∈ lw_all := lw_g (lw_at lw_m2 53 rfl) rfl
theorem q319 : (Jvm.Cond.code ({ cls := "GoBoardModel", name := "inAtari", desc := "(I)I" } : Jvm.MethodName) prog_3_method_25_code (4 : Nat) (Option.some Jvm.ClassFile.FieldType.int)) ∈ lw_all := lw_g (lw_at lw_m2 54 rfl) rfl
theorem q321 : (Jvm.Cond.instanceMethod ({ cls := "GoBoardModel", name := "score", desc := "(I)I" } : Jvm.MethodName)) ∈ lw_all := lw_g (lw_at lw_m2 56 rfl) rfl
theorem q322 : (Jvm.Cond.selects "GoBoardModel" ({ cls := "GoBoardModel", name := "score", desc := "(I)I" } : Jvm.MethodName) ({ cls := "GoBoardModel", name := "score", desc := "(I)I" } : Jvm.MethodName)) ∈ lw_all := lw_g (lw_at lw_m2 57 rfl) rfl
theorem q323 : (Jvm.Cond.code ({ cls := "GoBoardModel", name := "score", desc := "(I)I" } : Jvm.MethodName) prog_3_method_27_code (4 : Nat) (Option.some Jvm.ClassFile.FieldType.int)) ∈ lw_all := lw_g (lw_at lw_m2 58 rfl) rfl
theorem q324 : (Jvm.Cond.methodLink "GoBoardModel" (83 : Nat) ({ cls := "GoBoardModel", name := "touches", desc := "(I)Z" } : Jvm.MethodName)) ∈ lw_all := lw_g (lw_at lw_m2 59 rfl) rfl
theorem q325 : (Jvm.Cond.privateMethod ({ cls := "GoBoardModel", name := "touches", desc := "(I)Z" } : Jvm.MethodName)) ∈ lw_tbl := lw_at lw_m2 60 rfl
theorem q326 : (Jvm.Cond.instanceMethod ({ cls := "GoBoardModel", name := "touches", desc := "(I)Z" } : Jvm.MethodName)) ∈ lw_all := lw_g (lw_at lw_m2 61 rfl) rfl
theorem q327 : (Jvm.Cond.code ({ cls := "GoBoardModel", name := "touches", desc := "(I)Z" } : Jvm.MethodName) prog_3_method_26_code (3 : Nat) (Option.some Jvm.ClassFile.FieldType.boolean)) ∈ lw_all := lw_g (lw_at lw_m2 62 rfl) rfl
theorem q329 : (Jvm.Cond.instanceMethod ({ cls := "GoBoardModel", name := "region", desc := "(I)I" } : Jvm.MethodName)) ∈ lw_all := lw_g (lw_at lw_m2 64 rfl) rfl
theorem q330 : (Jvm.Cond.selects "GoBoardModel" ({ cls := "GoBoardModel", name := "region", desc := "(I)I" } : Jvm.MethodName) ({ cls := "GoBoardModel", name := "region", desc := "(I)I" } : Jvm.MethodName)) ∈ lw_all := lw_g (lw_at lw_m2 65 rfl) rfl
theorem q331 : (Jvm.Cond.code ({ cls := "GoBoardModel", name := "region", desc := "(I)I" } : Jvm.MethodName) prog_3_method_28_code (2 : Nat) (Option.some Jvm.ClassFile.FieldType.int)) ∈ lw_all := lw_g (lw_at lw_m2 66 rfl) rfl
theorem q333 : (Jvm.Cond.instanceMethod ({ cls := "GoBoardModel", name := "done", desc := "()I" } : Jvm.MethodName)) ∈ lw_all := lw_g (lw_at lw_m2 68 rfl) rfl
theorem q334 : (Jvm.Cond.selects "GoBoardModel" ({ cls := "GoBoardModel", name := "done", desc := "()I" } : Jvm.MethodName) ({ cls := "GoBoardModel", name := "done", desc := "()I" } : Jvm.MethodName)) ∈ lw_all := lw_g (lw_at lw_m2 69 rfl) rfl
theorem q335 : (Jvm.Cond.code ({ cls := "GoBoardModel", name := "done", desc := "()I" } : Jvm.MethodName) prog_3_method_29_code (1 : Nat) (Option.some Jvm.ClassFile.FieldType.int)) ∈ lw_all := lw_g (lw_at lw_m2 70 rfl) rfl
theorem in_X1 : ∀ w ∈ wsX10, w ∈ lw_all := lw_in wsX10 [203, 205, 207, 209, 211, 213, 215, 217, 219] (by decide +kernel) (by decide +kernel)
end
section
set_option maxRecDepth 100000
theorem dX0_init_0 : decode cX0_init 0 = .ok (.aload_n 0, 1) := by decide +kernel
theorem dX0_init_1 : decode cX0_init 1 = .ok (.invokespecial 1, 3) := by decide +kernel
theorem dX0_init_4 : decode cX0_init 4 = .ok (.aload_n 0, 1) := by decide +kernel
theorem dX0_init_5 : decode cX0_init 5 = .ok (.bipush 40, 2) := by decide +kernel
theorem dX0_init_7 : decode cX0_init 7 = .ok (.newarray .long, 2) := by decide +kernel
theorem dX0_init_9 : decode cX0_init 9 = .ok (.putfield 7, 3) := by decide +kernel
theorem dX0_init_12 : decode cX0_init 12 = .ok (.aload_n 0, 1) := by decide +kernel
theorem dX0_init_13 : decode cX0_init 13 = .ok (.bipush 40, 2) := by decide +kernel
theorem dX0_init_15 : decode cX0_init 15 = .ok (.newarray .long, 2) := by decide +kernel
theorem dX0_init_17 : decode cX0_init 17 = .ok (.putfield 13, 3) := by decide +kernel
theorem dX0_init_20 : decode cX0_init 20 = .ok (.aload_n 0, 1) := by decide +kernel
theorem dX0_init_21 : decode cX0_init 21 = .ok (.bipush 40, 2) := by decide +kernel
theorem dX0_init_23 : decode cX0_init 23 = .ok (.newarray .int, 2) := by decide +kernel
theorem dX0_init_25 : decode cX0_init 25 = .ok (.putfield 16, 3) := by decide +kernel
theorem dX0_init_28 : decode cX0_init 28 = .ok (.lconst 0, 1) := by decide +kernel
theorem dX0_init_29 : decode cX0_init 29 = .ok (.lstore_n 1, 1) := by decide +kernel
theorem dX0_init_30 : decode cX0_init 30 = .ok (.lconst 0, 1) := by decide +kernel
theorem dX0_init_31 : decode cX0_init 31 = .ok (.lstore_n 3, 1) := by decide +kernel
theorem dX0_init_32 : decode cX0_init 32 = .ok (.lconst 0, 1) := by decide +kernel
theorem dX0_init_33 : decode cX0_init 33 = .ok (.lstore 5, 2) := by decide +kernel
theorem dX0_init_35 : decode cX0_init 35 = .ok (.iconst 0, 1) := by decide +kernel
theorem dX0_init_36 : decode cX0_init 36 = .ok (.istore 7, 2) := by decide +kernel
theorem dX0_init_38 : decode cX0_init 38 = .ok (.iload 7, 2) := by decide +kernel
theorem dX0_init_40 : decode cX0_init 40 = .ok (.bipush 49, 2) := by decide +kernel
theorem dX0_init_42 : decode cX0_init 42 = .ok (.if_icmp .ge 50, 3) := by decide +kernel
theorem dX0_init_45 : decode cX0_init 45 = .ok (.lload_n 1, 1) := by decide +kernel
theorem dX0_init_46 : decode cX0_init 46 = .ok (.lconst 1, 1) := by decide +kernel
theorem dX0_init_47 : decode cX0_init 47 = .ok (.iload 7, 2) := by decide +kernel
theorem dX0_init_49 : decode cX0_init 49 = .ok (.lshl, 1) := by decide +kernel
theorem dX0_init_50 : decode cX0_init 50 = .ok (.lor, 1) := by decide +kernel
theorem dX0_init_51 : decode cX0_init 51 = .ok (.lstore_n 1, 1) := by decide +kernel
theorem dX0_init_52 : decode cX0_init 52 = .ok (.iload 7, 2) := by decide +kernel
theorem dX0_init_54 : decode cX0_init 54 = .ok (.bipush 7, 2) := by decide +kernel
theorem dX0_init_56 : decode cX0_init 56 = .ok (.irem, 1) := by decide +kernel
theorem dX0_init_57 : decode cX0_init 57 = .ok (.ifCond .ne 10, 3) := by decide +kernel
theorem dX0_init_60 : decode cX0_init 60 = .ok (.lload_n 3, 1) := by decide +kernel
theorem dX0_init_61 : decode cX0_init 61 = .ok (.lconst 1, 1) := by decide +kernel
theorem dX0_init_62 : decode cX0_init 62 = .ok (.iload 7, 2) := by decide +kernel
theorem dX0_init_64 : decode cX0_init 64 = .ok (.lshl, 1) := by decide +kernel
theorem dX0_init_65 : decode cX0_init 65 = .ok (.lor, 1) := by decide +kernel
theorem dX0_init_66 : decode cX0_init 66 = .ok (.lstore_n 3, 1) := by decide +kernel
theorem dX0_init_67 : decode cX0_init 67 = .ok (.iload 7, 2) := by decide +kernel
theorem dX0_init_69 : decode cX0_init 69 = .ok (.bipush 7, 2) := by decide +kernel
theorem dX0_init_71 : decode cX0_init 71 = .ok (.irem, 1) := by decide +kernel
theorem dX0_init_72 : decode cX0_init 72 = .ok (.bipush 6, 2) := by decide +kernel
theorem dX0_init_74 : decode cX0_init 74 = .ok (.if_icmp .ne 12, 3) := by decide +kernel
theorem dX0_init_77 : decode cX0_init 77 = .ok (.lload 5, 2) := by decide +kernel
theorem dX0_init_79 : decode cX0_init 79 = .ok (.lconst 1, 1) := by decide +kernel
theorem dX0_init_80 : decode cX0_init 80 = .ok (.iload 7, 2) := by decide +kernel
theorem dX0_init_82 : decode cX0_init 82 = .ok (.lshl, 1) := by decide +kernel
theorem dX0_init_83 : decode cX0_init 83 = .ok (.lor, 1) := by decide +kernel
theorem dX0_init_84 : decode cX0_init 84 = .ok (.lstore 5, 2) := by decide +kernel
theorem dX0_init_86 : decode cX0_init 86 = .ok (.iinc 7 1, 3) := by decide +kernel
theorem dX0_init_89 : decode cX0_init 89 = .ok (.goto (-51), 3) := by decide +kernel
theorem dX0_init_92 : decode cX0_init 92 = .ok (.aload_n 0, 1) := by decide +kernel
theorem dX0_init_93 : decode cX0_init 93 = .ok (.lload_n 1, 1) := by decide +kernel
theorem dX0_init_94 : decode cX0_init 94 = .ok (.putfield 20, 3) := by decide +kernel
theorem dX0_init_97 : decode cX0_init 97 = .ok (.aload_n 0, 1) := by decide +kernel
theorem dX0_init_98 : decode cX0_init 98 = .ok (.lload_n 1, 1) := by decide +kernel
theorem dX0_init_99 : decode cX0_init 99 = .ok (.lload_n 3, 1) := by decide +kernel
theorem dX0_init_100 : decode cX0_init 100 = .ok (.ldc2_w 24, 3) := by decide +kernel
theorem dX0_init_103 : decode cX0_init 103 = .ok (.lxor, 1) := by decide +kernel
theorem dX0_init_104 : decode cX0_init 104 = .ok (.land, 1) := by decide +kernel
theorem dX0_init_105 : decode cX0_init 105 = .ok (.putfield 26, 3) := by decide +kernel
theorem dX0_init_108 : decode cX0_init 108 = .ok (.aload_n 0, 1) := by decide +kernel
theorem dX0_init_109 : decode cX0_init 109 = .ok (.lload_n 1, 1) := by decide +kernel
theorem dX0_init_110 : decode cX0_init 110 = .ok (.lload 5, 2) := by decide +kernel
theorem dX0_init_112 : decode cX0_init 112 = .ok (.ldc2_w 24, 3) := by decide +kernel
theorem dX0_init_115 : decode cX0_init 115 = .ok (.lxor, 1) := by decide +kernel
theorem dX0_init_116 : decode cX0_init 116 = .ok (.land, 1) := by decide +kernel
theorem dX0_init_117 : decode cX0_init 117 = .ok (.putfield 29, 3) := by decide +kernel
theorem dX0_init_120 : decode cX0_init 120 = .ok (.return_, 1) := by decide +kernel
theorem dX0_play_0 : decode cX0_play 0 = .ok (.aload_n 0, 1) := by decide +kernel
theorem dX0_play_1 : decode cX0_play 1 = .ok (.iload_n 1, 1) := by decide +kernel
theorem dX0_play_2 : decode cX0_play 2 = .ok (.iload_n 2, 1) := by decide +kernel
theorem dX0_play_3 : decode cX0_play 3 = .ok (.invokevirtual 80, 3) := by decide +kernel
theorem dX0_play_6 : decode cX0_play 6 = .ok (.istore_n 3, 1) := by decide +kernel
theorem dX0_play_7 : decode cX0_play 7 = .ok (.iload_n 3, 1) := by decide +kernel
theorem dX0_play_8 : decode cX0_play 8 = .ok (.iconst (-1), 1) := by decide +kernel
theorem dX0_play_9 : decode cX0_play 9 = .ok (.if_icmp .eq 9, 3) := by decide +kernel
theorem dX0_play_12 : decode cX0_play 12 = .ok (.iload_n 3, 1) := by decide +kernel
theorem dX0_play_13 : decode cX0_play 13 = .ok (.bipush (-2), 2) := by decide +kernel
theorem dX0_play_15 : decode cX0_play 15 = .ok (.if_icmp .ne 5, 3) := by decide +kernel
theorem dX0_play_18 : decode cX0_play 18 = .ok (.iload_n 3, 1) := by decide +kernel
theorem dX0_play_19 : decode cX0_play 19 = .ok (.ireturn, 1) := by decide +kernel
theorem dX0_play_20 : decode cX0_play 20 = .ok (.aload_n 0, 1) := by decide +kernel
theorem dX0_play_21 : decode cX0_play 21 = .ok (.getfield 66, 3) := by decide +kernel
theorem dX0_play_24 : decode cX0_play 24 = .ok (.bipush 40, 2) := by decide +kernel
theorem dX0_play_26 : decode cX0_play 26 = .ok (.if_icmp .ne 6, 3) := by decide +kernel
theorem dX0_play_29 : decode cX0_play 29 = .ok (.bipush (-3), 2) := by decide +kernel
theorem dX0_play_31 : decode cX0_play 31 = .ok (.ireturn, 1) := by decide +kernel
theorem dX0_play_32 : decode cX0_play 32 = .ok (.iload_n 3, 1) := by decide +kernel
theorem dX0_play_33 : decode cX0_play 33 = .ok (.ifCond .ge 5, 3) := by decide +kernel
theorem dX0_play_36 : decode cX0_play 36 = .ok (.iload_n 3, 1) := by decide +kernel
theorem dX0_play_37 : decode cX0_play 37 = .ok (.ireturn, 1) := by decide +kernel
theorem dX0_play_38 : decode cX0_play 38 = .ok (.aload_n 0, 1) := by decide +kernel
theorem dX0_play_39 : decode cX0_play 39 = .ok (.invokevirtual 84, 3) := by decide +kernel
theorem dX0_play_42 : decode cX0_play 42 = .ok (.aload_n 0, 1) := by decide +kernel
theorem dX0_play_43 : decode cX0_play 43 = .ok (.aload_n 0, 1) := by decide +kernel
theorem dX0_play_44 : decode cX0_play 44 = .ok (.getfield 60, 3) := by decide +kernel
theorem dX0_play_47 : decode cX0_play 47 = .ok (.putfield 36, 3) := by decide +kernel
theorem dX0_play_50 : decode cX0_play 50 = .ok (.aload_n 0, 1) := by decide +kernel
theorem dX0_play_51 : decode cX0_play 51 = .ok (.aload_n 0, 1) := by decide +kernel
theorem dX0_play_52 : decode cX0_play 52 = .ok (.getfield 63, 3) := by decide +kernel
theorem dX0_play_55 : decode cX0_play 55 = .ok (.putfield 39, 3) := by decide +kernel
theorem dX0_play_58 : decode cX0_play 58 = .ok (.iload_n 1, 1) := by decide +kernel
theorem dX0_play_59 : decode cX0_play 59 = .ok (.ifCond .ne 16, 3) := by decide +kernel
theorem dX0_play_62 : decode cX0_play 62 = .ok (.aload_n 0, 1) := by decide +kernel
theorem dX0_play_63 : decode cX0_play 63 = .ok (.aload_n 0, 1) := by decide +kernel
theorem dX0_play_64 : decode cX0_play 64 = .ok (.getfield 74, 3) := by decide +kernel
theorem dX0_play_67 : decode cX0_play 67 = .ok (.iload_n 3, 1) := by decide +kernel
theorem dX0_play_68 : decode cX0_play 68 = .ok (.iadd, 1) := by decide +kernel
theorem dX0_play_69 : decode cX0_play 69 = .ok (.putfield 74, 3) := by decide +kernel
theorem dX0_play_72 : decode cX0_play 72 = .ok (.goto 13, 3) := by decide +kernel
theorem dX0_play_75 : decode cX0_play 75 = .ok (.aload_n 0, 1) := by decide +kernel
theorem dX0_play_76 : decode cX0_play 76 = .ok (.aload_n 0, 1) := by decide +kernel
theorem dX0_play_77 : decode cX0_play 77 = .ok (.getfield 77, 3) := by decide +kernel
theorem dX0_play_80 : decode cX0_play 80 = .ok (.iload_n 3, 1) := by decide +kernel
theorem dX0_play_81 : decode cX0_play 81 = .ok (.iadd, 1) := by decide +kernel
theorem dX0_play_82 : decode cX0_play 82 = .ok (.putfield 77, 3) := by decide +kernel
theorem dX0_play_85 : decode cX0_play 85 = .ok (.iload_n 3, 1) := by decide +kernel
theorem dX0_play_86 : decode cX0_play 86 = .ok (.ireturn, 1) := by decide +kernel
theorem dX0_attempt_0 : decode cX0_attempt 0 = .ok (.aload_n 0, 1) := by decide +kernel
theorem dX0_attempt_1 : decode cX0_attempt 1 = .ok (.iload_n 1, 1) := by decide +kernel
theorem dX0_attempt_2 : decode cX0_attempt 2 = .ok (.invokevirtual 46, 3) := by decide +kernel
theorem dX0_attempt_5 : decode cX0_attempt 5 = .ok (.ifCond .ne 11, 3) := by decide +kernel
theorem dX0_attempt_8 : decode cX0_attempt 8 = .ok (.aload_n 0, 1) := by decide +kernel
theorem dX0_attempt_9 : decode cX0_attempt 9 = .ok (.iload_n 2, 1) := by decide +kernel
theorem dX0_attempt_10 : decode cX0_attempt 10 = .ok (.invokevirtual 50, 3) := by decide +kernel
theorem dX0_attempt_13 : decode cX0_attempt 13 = .ok (.ifCond .eq 5, 3) := by decide +kernel
theorem dX0_attempt_16 : decode cX0_attempt 16 = .ok (.iconst (-1), 1) := by decide +kernel
theorem dX0_attempt_17 : decode cX0_attempt 17 = .ok (.ireturn, 1) := by decide +kernel
theorem dX0_attempt_18 : decode cX0_attempt 18 = .ok (.lconst 1, 1) := by decide +kernel
theorem dX0_attempt_19 : decode cX0_attempt 19 = .ok (.iload_n 2, 1) := by decide +kernel
theorem dX0_attempt_20 : decode cX0_attempt 20 = .ok (.lshl, 1) := by decide +kernel
theorem dX0_attempt_21 : decode cX0_attempt 21 = .ok (.lstore_n 3, 1) := by decide +kernel
theorem dX0_attempt_22 : decode cX0_attempt 22 = .ok (.aload_n 0, 1) := by decide +kernel
theorem dX0_attempt_23 : decode cX0_attempt 23 = .ok (.getfield 36, 3) := by decide +kernel
theorem dX0_attempt_26 : decode cX0_attempt 26 = .ok (.aload_n 0, 1) := by decide +kernel
theorem dX0_attempt_27 : decode cX0_attempt 27 = .ok (.getfield 39, 3) := by decide +kernel
theorem dX0_attempt_30 : decode cX0_attempt 30 = .ok (.lor, 1) := by decide +kernel
theorem dX0_attempt_31 : decode cX0_attempt 31 = .ok (.lload_n 3, 1) := by decide +kernel
theorem dX0_attempt_32 : decode cX0_attempt 32 = .ok (.land, 1) := by decide +kernel
theorem dX0_attempt_33 : decode cX0_attempt 33 = .ok (.lconst 0, 1) := by decide +kernel
theorem dX0_attempt_34 : decode cX0_attempt 34 = .ok (.lcmp, 1) := by decide +kernel
theorem dX0_attempt_35 : decode cX0_attempt 35 = .ok (.ifCond .eq 6, 3) := by decide +kernel
theorem dX0_attempt_38 : decode cX0_attempt 38 = .ok (.bipush (-2), 2) := by decide +kernel
theorem dX0_attempt_40 : decode cX0_attempt 40 = .ok (.ireturn, 1) := by decide +kernel
theorem dX0_attempt_41 : decode cX0_attempt 41 = .ok (.aload_n 0, 1) := by decide +kernel
theorem dX0_attempt_42 : decode cX0_attempt 42 = .ok (.iload_n 1, 1) := by decide +kernel
theorem dX0_attempt_43 : decode cX0_attempt 43 = .ok (.invokevirtual 53, 3) := by decide +kernel
theorem dX0_attempt_46 : decode cX0_attempt 46 = .ok (.lload_n 3, 1) := by decide +kernel
theorem dX0_attempt_47 : decode cX0_attempt 47 = .ok (.lor, 1) := by decide +kernel
theorem dX0_attempt_48 : decode cX0_attempt 48 = .ok (.lstore 5, 2) := by decide +kernel
theorem dX0_attempt_50 : decode cX0_attempt 50 = .ok (.aload_n 0, 1) := by decide +kernel
theorem dX0_attempt_51 : decode cX0_attempt 51 = .ok (.iconst 1, 1) := by decide +kernel
theorem dX0_attempt_52 : decode cX0_attempt 52 = .ok (.iload_n 1, 1) := by decide +kernel
theorem dX0_attempt_53 : decode cX0_attempt 53 = .ok (.isub, 1) := by decide +kernel
theorem dX0_attempt_54 : decode cX0_attempt 54 = .ok (.invokevirtual 53, 3) := by decide +kernel
theorem dX0_attempt_57 : decode cX0_attempt 57 = .ok (.lstore 7, 2) := by decide +kernel
theorem dX0_attempt_59 : decode cX0_attempt 59 = .ok (.aload_n 0, 1) := by decide +kernel
theorem dX0_attempt_60 : decode cX0_attempt 60 = .ok (.getfield 20, 3) := by decide +kernel
theorem dX0_attempt_63 : decode cX0_attempt 63 = .ok (.lload 5, 2) := by decide +kernel
theorem dX0_attempt_65 : decode cX0_attempt 65 = .ok (.lload 7, 2) := by decide +kernel
theorem dX0_attempt_67 : decode cX0_attempt 67 = .ok (.lor, 1) := by decide +kernel
theorem dX0_attempt_68 : decode cX0_attempt 68 = .ok (.ldc2_w 24, 3) := by decide +kernel
theorem dX0_attempt_71 : decode cX0_attempt 71 = .ok (.lxor, 1) := by decide +kernel
theorem dX0_attempt_72 : decode cX0_attempt 72 = .ok (.land, 1) := by decide +kernel
theorem dX0_attempt_73 : decode cX0_attempt 73 = .ok (.lstore 9, 2) := by decide +kernel
theorem dX0_attempt_75 : decode cX0_attempt 75 = .ok (.aload_n 0, 1) := by decide +kernel
theorem dX0_attempt_76 : decode cX0_attempt 76 = .ok (.lload 7, 2) := by decide +kernel
theorem dX0_attempt_78 : decode cX0_attempt 78 = .ok (.lload 9, 2) := by decide +kernel
theorem dX0_attempt_80 : decode cX0_attempt 80 = .ok (.invokevirtual 57, 3) := by decide +kernel
theorem dX0_attempt_83 : decode cX0_attempt 83 = .ok (.lstore 11, 2) := by decide +kernel
theorem dX0_attempt_85 : decode cX0_attempt 85 = .ok (.lload 7, 2) := by decide +kernel
theorem dX0_attempt_87 : decode cX0_attempt 87 = .ok (.lload 11, 2) := by decide +kernel
theorem dX0_attempt_89 : decode cX0_attempt 89 = .ok (.ldc2_w 24, 3) := by decide +kernel
theorem dX0_attempt_92 : decode cX0_attempt 92 = .ok (.lxor, 1) := by decide +kernel
theorem dX0_attempt_93 : decode cX0_attempt 93 = .ok (.land, 1) := by decide +kernel
theorem dX0_attempt_94 : decode cX0_attempt 94 = .ok (.lstore 7, 2) := by decide +kernel
theorem dX0_attempt_96 : decode cX0_attempt 96 = .ok (.lload 9, 2) := by decide +kernel
theorem dX0_attempt_98 : decode cX0_attempt 98 = .ok (.lload 11, 2) := by decide +kernel
theorem dX0_attempt_100 : decode cX0_attempt 100 = .ok (.lor, 1) := by decide +kernel
theorem dX0_attempt_101 : decode cX0_attempt 101 = .ok (.lstore 9, 2) := by decide +kernel
theorem dX0_attempt_103 : decode cX0_attempt 103 = .ok (.aload_n 0, 1) := by decide +kernel
theorem dX0_attempt_104 : decode cX0_attempt 104 = .ok (.lload_n 3, 1) := by decide +kernel
theorem dX0_attempt_105 : decode cX0_attempt 105 = .ok (.lload 5, 2) := by decide +kernel
theorem dX0_attempt_107 : decode cX0_attempt 107 = .ok (.invokevirtual 42, 3) := by decide +kernel
theorem dX0_attempt_110 : decode cX0_attempt 110 = .ok (.lstore 13, 2) := by decide +kernel
theorem dX0_attempt_112 : decode cX0_attempt 112 = .ok (.aload_n 0, 1) := by decide +kernel
theorem dX0_attempt_113 : decode cX0_attempt 113 = .ok (.lload 13, 2) := by decide +kernel
theorem dX0_attempt_115 : decode cX0_attempt 115 = .ok (.invokevirtual 32, 3) := by decide +kernel
theorem dX0_attempt_118 : decode cX0_attempt 118 = .ok (.lload 9, 2) := by decide +kernel
theorem dX0_attempt_120 : decode cX0_attempt 120 = .ok (.land, 1) := by decide +kernel
theorem dX0_attempt_121 : decode cX0_attempt 121 = .ok (.lconst 0, 1) := by decide +kernel
theorem dX0_attempt_122 : decode cX0_attempt 122 = .ok (.lcmp, 1) := by decide +kernel
theorem dX0_attempt_123 : decode cX0_attempt 123 = .ok (.ifCond .ne 6, 3) := by decide +kernel
theorem dX0_attempt_126 : decode cX0_attempt 126 = .ok (.bipush (-5), 2) := by decide +kernel
theorem dX0_attempt_128 : decode cX0_attempt 128 = .ok (.ireturn, 1) := by decide +kernel
theorem dX0_attempt_129 : decode cX0_attempt 129 = .ok (.aload_n 0, 1) := by decide +kernel
theorem dX0_attempt_130 : decode cX0_attempt 130 = .ok (.iload_n 1, 1) := by decide +kernel
theorem dX0_attempt_131 : decode cX0_attempt 131 = .ok (.ifCond .ne 8, 3) := by decide +kernel
theorem dX0_attempt_134 : decode cX0_attempt 134 = .ok (.lload 5, 2) := by decide +kernel
theorem dX0_attempt_136 : decode cX0_attempt 136 = .ok (.goto 5, 3) := by decide +kernel
theorem dX0_attempt_139 : decode cX0_attempt 139 = .ok (.lload 7, 2) := by decide +kernel
theorem dX0_attempt_141 : decode cX0_attempt 141 = .ok (.putfield 60, 3) := by decide +kernel
theorem dX0_attempt_144 : decode cX0_attempt 144 = .ok (.aload_n 0, 1) := by decide +kernel
theorem dX0_attempt_145 : decode cX0_attempt 145 = .ok (.iload_n 1, 1) := by decide +kernel
theorem dX0_attempt_146 : decode cX0_attempt 146 = .ok (.ifCond .ne 8, 3) := by decide +kernel
theorem dX0_attempt_149 : decode cX0_attempt 149 = .ok (.lload 7, 2) := by decide +kernel
theorem dX0_attempt_151 : decode cX0_attempt 151 = .ok (.goto 5, 3) := by decide +kernel
theorem dX0_attempt_154 : decode cX0_attempt 154 = .ok (.lload 5, 2) := by decide +kernel
theorem dX0_attempt_156 : decode cX0_attempt 156 = .ok (.putfield 63, 3) := by decide +kernel
theorem dX0_attempt_159 : decode cX0_attempt 159 = .ok (.aload_n 0, 1) := by decide +kernel
theorem dX0_attempt_160 : decode cX0_attempt 160 = .ok (.getfield 66, 3) := by decide +kernel
theorem dX0_attempt_163 : decode cX0_attempt 163 = .ok (.ifCond .le 44, 3) := by decide +kernel
theorem dX0_attempt_166 : decode cX0_attempt 166 = .ok (.aload_n 0, 1) := by decide +kernel
theorem dX0_attempt_167 : decode cX0_attempt 167 = .ok (.getfield 60, 3) := by decide +kernel
theorem dX0_attempt_170 : decode cX0_attempt 170 = .ok (.aload_n 0, 1) := by decide +kernel
theorem dX0_attempt_171 : decode cX0_attempt 171 = .ok (.getfield 7, 3) := by decide +kernel
theorem dX0_attempt_174 : decode cX0_attempt 174 = .ok (.aload_n 0, 1) := by decide +kernel
theorem dX0_attempt_175 : decode cX0_attempt 175 = .ok (.getfield 66, 3) := by decide +kernel
theorem dX0_attempt_178 : decode cX0_attempt 178 = .ok (.iconst 1, 1) := by decide +kernel
theorem dX0_attempt_179 : decode cX0_attempt 179 = .ok (.isub, 1) := by decide +kernel
theorem dX0_attempt_180 : decode cX0_attempt 180 = .ok (.laload, 1) := by decide +kernel
theorem dX0_attempt_181 : decode cX0_attempt 181 = .ok (.lcmp, 1) := by decide +kernel
theorem dX0_attempt_182 : decode cX0_attempt 182 = .ok (.ifCond .ne 25, 3) := by decide +kernel
theorem dX0_attempt_185 : decode cX0_attempt 185 = .ok (.aload_n 0, 1) := by decide +kernel
theorem dX0_attempt_186 : decode cX0_attempt 186 = .ok (.getfield 63, 3) := by decide +kernel
theorem dX0_attempt_189 : decode cX0_attempt 189 = .ok (.aload_n 0, 1) := by decide +kernel
theorem dX0_attempt_190 : decode cX0_attempt 190 = .ok (.getfield 13, 3) := by decide +kernel
theorem dX0_attempt_193 : decode cX0_attempt 193 = .ok (.aload_n 0, 1) := by decide +kernel
theorem dX0_attempt_194 : decode cX0_attempt 194 = .ok (.getfield 66, 3) := by decide +kernel
theorem dX0_attempt_197 : decode cX0_attempt 197 = .ok (.iconst 1, 1) := by decide +kernel
theorem dX0_attempt_198 : decode cX0_attempt 198 = .ok (.isub, 1) := by decide +kernel
theorem dX0_attempt_199 : decode cX0_attempt 199 = .ok (.laload, 1) := by decide +kernel
theorem dX0_attempt_200 : decode cX0_attempt 200 = .ok (.lcmp, 1) := by decide +kernel
theorem dX0_attempt_201 : decode cX0_attempt 201 = .ok (.ifCond .ne 6, 3) := by decide +kernel
theorem dX0_attempt_204 : decode cX0_attempt 204 = .ok (.bipush (-6), 2) := by decide +kernel
theorem dX0_attempt_206 : decode cX0_attempt 206 = .ok (.ireturn, 1) := by decide +kernel
theorem dX0_attempt_207 : decode cX0_attempt 207 = .ok (.aload_n 0, 1) := by decide +kernel
theorem dX0_attempt_208 : decode cX0_attempt 208 = .ok (.lload 11, 2) := by decide +kernel
theorem dX0_attempt_210 : decode cX0_attempt 210 = .ok (.invokevirtual 70, 3) := by decide +kernel
theorem dX0_attempt_213 : decode cX0_attempt 213 = .ok (.ireturn, 1) := by decide +kernel
theorem dX0_badPlayer_0 : decode cX0_badPlayer 0 = .ok (.iload_n 1, 1) := by decide +kernel
theorem dX0_badPlayer_1 : decode cX0_badPlayer 1 = .ok (.ifCond .lt 8, 3) := by decide +kernel
theorem dX0_badPlayer_4 : decode cX0_badPlayer 4 = .ok (.iload_n 1, 1) := by decide +kernel
theorem dX0_badPlayer_5 : decode cX0_badPlayer 5 = .ok (.iconst 1, 1) := by decide +kernel
theorem dX0_badPlayer_6 : decode cX0_badPlayer 6 = .ok (.if_icmp .le 7, 3) := by decide +kernel
theorem dX0_badPlayer_9 : decode cX0_badPlayer 9 = .ok (.iconst 1, 1) := by decide +kernel
theorem dX0_badPlayer_10 : decode cX0_badPlayer 10 = .ok (.goto 4, 3) := by decide +kernel
theorem dX0_badPlayer_13 : decode cX0_badPlayer 13 = .ok (.iconst 0, 1) := by decide +kernel
theorem dX0_badPlayer_14 : decode cX0_badPlayer 14 = .ok (.ireturn, 1) := by decide +kernel
theorem dX0_badPoint_0 : decode cX0_badPoint 0 = .ok (.iload_n 1, 1) := by decide +kernel
theorem dX0_badPoint_1 : decode cX0_badPoint 1 = .ok (.ifCond .lt 9, 3) := by decide +kernel
theorem dX0_badPoint_4 : decode cX0_badPoint 4 = .ok (.iload_n 1, 1) := by decide +kernel
theorem dX0_badPoint_5 : decode cX0_badPoint 5 = .ok (.bipush 49, 2) := by decide +kernel
theorem dX0_badPoint_7 : decode cX0_badPoint 7 = .ok (.if_icmp .lt 7, 3) := by decide +kernel
theorem dX0_badPoint_10 : decode cX0_badPoint 10 = .ok (.iconst 1, 1) := by decide +kernel
theorem dX0_badPoint_11 : decode cX0_badPoint 11 = .ok (.goto 4, 3) := by decide +kernel
theorem dX0_badPoint_14 : decode cX0_badPoint 14 = .ok (.iconst 0, 1) := by decide +kernel
theorem dX0_badPoint_15 : decode cX0_badPoint 15 = .ok (.ireturn, 1) := by decide +kernel
theorem dX0_stones_0 : decode cX0_stones 0 = .ok (.iload_n 1, 1) := by decide +kernel
theorem dX0_stones_1 : decode cX0_stones 1 = .ok (.ifCond .ne 10, 3) := by decide +kernel
theorem dX0_stones_4 : decode cX0_stones 4 = .ok (.aload_n 0, 1) := by decide +kernel
theorem dX0_stones_5 : decode cX0_stones 5 = .ok (.getfield 36, 3) := by decide +kernel
theorem dX0_stones_8 : decode cX0_stones 8 = .ok (.goto 7, 3) := by decide +kernel
theorem dX0_stones_11 : decode cX0_stones 11 = .ok (.aload_n 0, 1) := by decide +kernel
theorem dX0_stones_12 : decode cX0_stones 12 = .ok (.getfield 39, 3) := by decide +kernel
theorem dX0_stones_15 : decode cX0_stones 15 = .ok (.lreturn, 1) := by decide +kernel
theorem dX0_dead_0 : decode cX0_dead 0 = .ok (.lload_n 1, 1) := by decide +kernel
theorem dX0_dead_1 : decode cX0_dead 1 = .ok (.aload_n 0, 1) := by decide +kernel
theorem dX0_dead_2 : decode cX0_dead 2 = .ok (.lload_n 3, 1) := by decide +kernel
theorem dX0_dead_3 : decode cX0_dead 3 = .ok (.invokevirtual 32, 3) := by decide +kernel
theorem dX0_dead_6 : decode cX0_dead 6 = .ok (.land, 1) := by decide +kernel
theorem dX0_dead_7 : decode cX0_dead 7 = .ok (.lstore 5, 2) := by decide +kernel
theorem dX0_dead_9 : decode cX0_dead 9 = .ok (.aload_n 0, 1) := by decide +kernel
theorem dX0_dead_10 : decode cX0_dead 10 = .ok (.lload 5, 2) := by decide +kernel
theorem dX0_dead_12 : decode cX0_dead 12 = .ok (.lload_n 1, 1) := by decide +kernel
theorem dX0_dead_13 : decode cX0_dead 13 = .ok (.invokevirtual 42, 3) := by decide +kernel
theorem dX0_dead_16 : decode cX0_dead 16 = .ok (.lstore 7, 2) := by decide +kernel
theorem dX0_dead_18 : decode cX0_dead 18 = .ok (.lload_n 1, 1) := by decide +kernel
theorem dX0_dead_19 : decode cX0_dead 19 = .ok (.lload 7, 2) := by decide +kernel
theorem dX0_dead_21 : decode cX0_dead 21 = .ok (.ldc2_w 24, 3) := by decide +kernel
theorem dX0_dead_24 : decode cX0_dead 24 = .ok (.lxor, 1) := by decide +kernel
theorem dX0_dead_25 : decode cX0_dead 25 = .ok (.land, 1) := by decide +kernel
theorem dX0_dead_26 : decode cX0_dead 26 = .ok (.lreturn, 1) := by decide +kernel
theorem dX0_around_0 : decode cX0_around 0 = .ok (.lload_n 1, 1) := by decide +kernel
theorem dX0_around_1 : decode cX0_around 1 = .ok (.bipush 7, 2) := by decide +kernel
theorem dX0_around_3 : decode cX0_around 3 = .ok (.lushr, 1) := by decide +kernel
theorem dX0_around_4 : decode cX0_around 4 = .ok (.lstore_n 3, 1) := by decide +kernel
theorem dX0_around_5 : decode cX0_around 5 = .ok (.lload_n 1, 1) := by decide +kernel
theorem dX0_around_6 : decode cX0_around 6 = .ok (.bipush 7, 2) := by decide +kernel
theorem dX0_around_8 : decode cX0_around 8 = .ok (.lshl, 1) := by decide +kernel
theorem dX0_around_9 : decode cX0_around 9 = .ok (.lstore 5, 2) := by decide +kernel
theorem dX0_around_11 : decode cX0_around 11 = .ok (.lload_n 1, 1) := by decide +kernel
theorem dX0_around_12 : decode cX0_around 12 = .ok (.aload_n 0, 1) := by decide +kernel
theorem dX0_around_13 : decode cX0_around 13 = .ok (.getfield 26, 3) := by decide +kernel
theorem dX0_around_16 : decode cX0_around 16 = .ok (.land, 1) := by decide +kernel
theorem dX0_around_17 : decode cX0_around 17 = .ok (.iconst 1, 1) := by decide +kernel
theorem dX0_around_18 : decode cX0_around 18 = .ok (.lushr, 1) := by decide +kernel
theorem dX0_around_19 : decode cX0_around 19 = .ok (.lstore 7, 2) := by decide +kernel
theorem dX0_around_21 : decode cX0_around 21 = .ok (.lload_n 1, 1) := by decide +kernel
theorem dX0_around_22 : decode cX0_around 22 = .ok (.aload_n 0, 1) := by decide +kernel
theorem dX0_around_23 : decode cX0_around 23 = .ok (.getfield 29, 3) := by decide +kernel
theorem dX0_around_26 : decode cX0_around 26 = .ok (.land, 1) := by decide +kernel
theorem dX0_around_27 : decode cX0_around 27 = .ok (.iconst 1, 1) := by decide +kernel
theorem dX0_around_28 : decode cX0_around 28 = .ok (.lshl, 1) := by decide +kernel
theorem dX0_around_29 : decode cX0_around 29 = .ok (.lstore 9, 2) := by decide +kernel
theorem dX0_around_31 : decode cX0_around 31 = .ok (.lload_n 3, 1) := by decide +kernel
theorem dX0_around_32 : decode cX0_around 32 = .ok (.lload 5, 2) := by decide +kernel
theorem dX0_around_34 : decode cX0_around 34 = .ok (.lor, 1) := by decide +kernel
theorem dX0_around_35 : decode cX0_around 35 = .ok (.lload 7, 2) := by decide +kernel
theorem dX0_around_37 : decode cX0_around 37 = .ok (.lor, 1) := by decide +kernel
theorem dX0_around_38 : decode cX0_around 38 = .ok (.lload 9, 2) := by decide +kernel
theorem dX0_around_40 : decode cX0_around 40 = .ok (.lor, 1) := by decide +kernel
theorem dX0_around_41 : decode cX0_around 41 = .ok (.aload_n 0, 1) := by decide +kernel
theorem dX0_around_42 : decode cX0_around 42 = .ok (.getfield 20, 3) := by decide +kernel
theorem dX0_around_45 : decode cX0_around 45 = .ok (.land, 1) := by decide +kernel
theorem dX0_around_46 : decode cX0_around 46 = .ok (.lreturn, 1) := by decide +kernel
theorem dX0_grown_0 : decode cX0_grown 0 = .ok (.lload_n 1, 1) := by decide +kernel
theorem dX0_grown_1 : decode cX0_grown 1 = .ok (.lload_n 3, 1) := by decide +kernel
theorem dX0_grown_2 : decode cX0_grown 2 = .ok (.land, 1) := by decide +kernel
theorem dX0_grown_3 : decode cX0_grown 3 = .ok (.lstore 5, 2) := by decide +kernel
theorem dX0_grown_5 : decode cX0_grown 5 = .ok (.iconst 1, 1) := by decide +kernel
theorem dX0_grown_6 : decode cX0_grown 6 = .ok (.istore 7, 2) := by decide +kernel
theorem dX0_grown_8 : decode cX0_grown 8 = .ok (.iconst 0, 1) := by decide +kernel
theorem dX0_grown_9 : decode cX0_grown 9 = .ok (.istore 8, 2) := by decide +kernel
theorem dX0_grown_11 : decode cX0_grown 11 = .ok (.iload 8, 2) := by decide +kernel
theorem dX0_grown_13 : decode cX0_grown 13 = .ok (.bipush 50, 2) := by decide +kernel
theorem dX0_grown_15 : decode cX0_grown 15 = .ok (.if_icmp .ge 46, 3) := by decide +kernel
theorem dX0_grown_18 : decode cX0_grown 18 = .ok (.iload 7, 2) := by decide +kernel
theorem dX0_grown_20 : decode cX0_grown 20 = .ok (.ifCond .eq 41, 3) := by decide +kernel
theorem dX0_grown_23 : decode cX0_grown 23 = .ok (.lload 5, 2) := by decide +kernel
theorem dX0_grown_25 : decode cX0_grown 25 = .ok (.aload_n 0, 1) := by decide +kernel
theorem dX0_grown_26 : decode cX0_grown 26 = .ok (.lload 5, 2) := by decide +kernel
theorem dX0_grown_28 : decode cX0_grown 28 = .ok (.invokevirtual 32, 3) := by decide +kernel
theorem dX0_grown_31 : decode cX0_grown 31 = .ok (.lload_n 3, 1) := by decide +kernel
theorem dX0_grown_32 : decode cX0_grown 32 = .ok (.land, 1) := by decide +kernel
theorem dX0_grown_33 : decode cX0_grown 33 = .ok (.lor, 1) := by decide +kernel
theorem dX0_grown_34 : decode cX0_grown 34 = .ok (.lstore 9, 2) := by decide +kernel
theorem dX0_grown_36 : decode cX0_grown 36 = .ok (.lload 9, 2) := by decide +kernel
theorem dX0_grown_38 : decode cX0_grown 38 = .ok (.lload 5, 2) := by decide +kernel
theorem dX0_grown_40 : decode cX0_grown 40 = .ok (.lcmp, 1) := by decide +kernel
theorem dX0_grown_41 : decode cX0_grown 41 = .ok (.ifCond .eq 7, 3) := by decide +kernel
theorem dX0_grown_44 : decode cX0_grown 44 = .ok (.iconst 1, 1) := by decide +kernel
theorem dX0_grown_45 : decode cX0_grown 45 = .ok (.goto 4, 3) := by decide +kernel
theorem dX0_grown_48 : decode cX0_grown 48 = .ok (.iconst 0, 1) := by decide +kernel
theorem dX0_grown_49 : decode cX0_grown 49 = .ok (.istore 7, 2) := by decide +kernel
theorem dX0_grown_51 : decode cX0_grown 51 = .ok (.lload 9, 2) := by decide +kernel
theorem dX0_grown_53 : decode cX0_grown 53 = .ok (.lstore 5, 2) := by decide +kernel
theorem dX0_grown_55 : decode cX0_grown 55 = .ok (.iinc 8 1, 3) := by decide +kernel
theorem dX0_grown_58 : decode cX0_grown 58 = .ok (.goto (-47), 3) := by decide +kernel
theorem dX0_grown_61 : decode cX0_grown 61 = .ok (.lload 5, 2) := by decide +kernel
theorem dX0_grown_63 : decode cX0_grown 63 = .ok (.lreturn, 1) := by decide +kernel
theorem dX0_sizeOf_0 : decode cX0_sizeOf 0 = .ok (.iconst 0, 1) := by decide +kernel
theorem dX0_sizeOf_1 : decode cX0_sizeOf 1 = .ok (.istore_n 3, 1) := by decide +kernel
theorem dX0_sizeOf_2 : decode cX0_sizeOf 2 = .ok (.iconst 0, 1) := by decide +kernel
theorem dX0_sizeOf_3 : decode cX0_sizeOf 3 = .ok (.istore 4, 2) := by decide +kernel
theorem dX0_sizeOf_5 : decode cX0_sizeOf 5 = .ok (.iload 4, 2) := by decide +kernel
theorem dX0_sizeOf_7 : decode cX0_sizeOf 7 = .ok (.bipush 49, 2) := by decide +kernel
theorem dX0_sizeOf_9 : decode cX0_sizeOf 9 = .ok (.if_icmp .ge 23, 3) := by decide +kernel
theorem dX0_sizeOf_12 : decode cX0_sizeOf 12 = .ok (.lload_n 1, 1) := by decide +kernel
theorem dX0_sizeOf_13 : decode cX0_sizeOf 13 = .ok (.iload 4, 2) := by decide +kernel
theorem dX0_sizeOf_15 : decode cX0_sizeOf 15 = .ok (.lushr, 1) := by decide +kernel
theorem dX0_sizeOf_16 : decode cX0_sizeOf 16 = .ok (.lconst 1, 1) := by decide +kernel
theorem dX0_sizeOf_17 : decode cX0_sizeOf 17 = .ok (.land, 1) := by decide +kernel
theorem dX0_sizeOf_18 : decode cX0_sizeOf 18 = .ok (.lconst 1, 1) := by decide +kernel
theorem dX0_sizeOf_19 : decode cX0_sizeOf 19 = .ok (.lcmp, 1) := by decide +kernel
theorem dX0_sizeOf_20 : decode cX0_sizeOf 20 = .ok (.ifCond .ne 6, 3) := by decide +kernel
theorem dX0_sizeOf_23 : decode cX0_sizeOf 23 = .ok (.iinc 3 1, 3) := by decide +kernel
theorem dX0_sizeOf_26 : decode cX0_sizeOf 26 = .ok (.iinc 4 1, 3) := by decide +kernel
theorem dX0_sizeOf_29 : decode cX0_sizeOf 29 = .ok (.goto (-24), 3) := by decide +kernel
theorem dX0_sizeOf_32 : decode cX0_sizeOf 32 = .ok (.iload_n 3, 1) := by decide +kernel
theorem dX0_sizeOf_33 : decode cX0_sizeOf 33 = .ok (.ireturn, 1) := by decide +kernel
theorem dX0_store_0 : decode cX0_store 0 = .ok (.aload_n 0, 1) := by decide +kernel
theorem dX0_store_1 : decode cX0_store 1 = .ok (.getfield 7, 3) := by decide +kernel
theorem dX0_store_4 : decode cX0_store 4 = .ok (.aload_n 0, 1) := by decide +kernel
theorem dX0_store_5 : decode cX0_store 5 = .ok (.getfield 66, 3) := by decide +kernel
theorem dX0_store_8 : decode cX0_store 8 = .ok (.aload_n 0, 1) := by decide +kernel
theorem dX0_store_9 : decode cX0_store 9 = .ok (.getfield 36, 3) := by decide +kernel
theorem dX0_store_12 : decode cX0_store 12 = .ok (.lastore, 1) := by decide +kernel
theorem dX0_store_13 : decode cX0_store 13 = .ok (.aload_n 0, 1) := by decide +kernel
theorem dX0_store_14 : decode cX0_store 14 = .ok (.getfield 13, 3) := by decide +kernel
theorem dX0_store_17 : decode cX0_store 17 = .ok (.aload_n 0, 1) := by decide +kernel
theorem dX0_store_18 : decode cX0_store 18 = .ok (.getfield 66, 3) := by decide +kernel
theorem dX0_store_21 : decode cX0_store 21 = .ok (.aload_n 0, 1) := by decide +kernel
theorem dX0_store_22 : decode cX0_store 22 = .ok (.getfield 39, 3) := by decide +kernel
theorem dX0_store_25 : decode cX0_store 25 = .ok (.lastore, 1) := by decide +kernel
theorem dX0_store_26 : decode cX0_store 26 = .ok (.aload_n 0, 1) := by decide +kernel
theorem dX0_store_27 : decode cX0_store 27 = .ok (.getfield 16, 3) := by decide +kernel
theorem dX0_store_30 : decode cX0_store 30 = .ok (.aload_n 0, 1) := by decide +kernel
theorem dX0_store_31 : decode cX0_store 31 = .ok (.getfield 66, 3) := by decide +kernel
theorem dX0_store_34 : decode cX0_store 34 = .ok (.aload_n 0, 1) := by decide +kernel
theorem dX0_store_35 : decode cX0_store 35 = .ok (.getfield 74, 3) := by decide +kernel
theorem dX0_store_38 : decode cX0_store 38 = .ok (.sipush 1000, 3) := by decide +kernel
theorem dX0_store_41 : decode cX0_store 41 = .ok (.imul, 1) := by decide +kernel
theorem dX0_store_42 : decode cX0_store 42 = .ok (.aload_n 0, 1) := by decide +kernel
theorem dX0_store_43 : decode cX0_store 43 = .ok (.getfield 77, 3) := by decide +kernel
theorem dX0_store_46 : decode cX0_store 46 = .ok (.iadd, 1) := by decide +kernel
theorem dX0_store_47 : decode cX0_store 47 = .ok (.iastore, 1) := by decide +kernel
theorem dX0_store_48 : decode cX0_store 48 = .ok (.aload_n 0, 1) := by decide +kernel
theorem dX0_store_49 : decode cX0_store 49 = .ok (.dup, 1) := by decide +kernel
theorem dX0_store_50 : decode cX0_store 50 = .ok (.getfield 66, 3) := by decide +kernel
theorem dX0_store_53 : decode cX0_store 53 = .ok (.iconst 1, 1) := by decide +kernel
theorem dX0_store_54 : decode cX0_store 54 = .ok (.iadd, 1) := by decide +kernel
theorem dX0_store_55 : decode cX0_store 55 = .ok (.putfield 66, 3) := by decide +kernel
theorem dX0_store_58 : decode cX0_store 58 = .ok (.return_, 1) := by decide +kernel
theorem dX0_pass_0 : decode cX0_pass 0 = .ok (.aload_n 0, 1) := by decide +kernel
theorem dX0_pass_1 : decode cX0_pass 1 = .ok (.getfield 66, 3) := by decide +kernel
theorem dX0_pass_4 : decode cX0_pass 4 = .ok (.bipush 40, 2) := by decide +kernel
theorem dX0_pass_6 : decode cX0_pass 6 = .ok (.if_icmp .ne 6, 3) := by decide +kernel
theorem dX0_pass_9 : decode cX0_pass 9 = .ok (.bipush (-3), 2) := by decide +kernel
theorem dX0_pass_11 : decode cX0_pass 11 = .ok (.ireturn, 1) := by decide +kernel
theorem dX0_pass_12 : decode cX0_pass 12 = .ok (.aload_n 0, 1) := by decide +kernel
theorem dX0_pass_13 : decode cX0_pass 13 = .ok (.invokevirtual 84, 3) := by decide +kernel
theorem dX0_pass_16 : decode cX0_pass 16 = .ok (.aload_n 0, 1) := by decide +kernel
theorem dX0_pass_17 : decode cX0_pass 17 = .ok (.getfield 66, 3) := by decide +kernel
theorem dX0_pass_20 : decode cX0_pass 20 = .ok (.ireturn, 1) := by decide +kernel
theorem dX0_undo_0 : decode cX0_undo 0 = .ok (.aload_n 0, 1) := by decide +kernel
theorem dX0_undo_1 : decode cX0_undo 1 = .ok (.getfield 66, 3) := by decide +kernel
theorem dX0_undo_4 : decode cX0_undo 4 = .ok (.ifCond .ne 6, 3) := by decide +kernel
theorem dX0_undo_7 : decode cX0_undo 7 = .ok (.bipush (-2), 2) := by decide +kernel
theorem dX0_undo_9 : decode cX0_undo 9 = .ok (.ireturn, 1) := by decide +kernel
theorem dX0_undo_10 : decode cX0_undo 10 = .ok (.aload_n 0, 1) := by decide +kernel
theorem dX0_undo_11 : decode cX0_undo 11 = .ok (.dup, 1) := by decide +kernel
theorem dX0_undo_12 : decode cX0_undo 12 = .ok (.getfield 66, 3) := by decide +kernel
theorem dX0_undo_15 : decode cX0_undo 15 = .ok (.iconst 1, 1) := by decide +kernel
theorem dX0_undo_16 : decode cX0_undo 16 = .ok (.isub, 1) := by decide +kernel
theorem dX0_undo_17 : decode cX0_undo 17 = .ok (.putfield 66, 3) := by decide +kernel
theorem dX0_undo_20 : decode cX0_undo 20 = .ok (.aload_n 0, 1) := by decide +kernel
theorem dX0_undo_21 : decode cX0_undo 21 = .ok (.aload_n 0, 1) := by decide +kernel
theorem dX0_undo_22 : decode cX0_undo 22 = .ok (.getfield 7, 3) := by decide +kernel
theorem dX0_undo_25 : decode cX0_undo 25 = .ok (.aload_n 0, 1) := by decide +kernel
theorem dX0_undo_26 : decode cX0_undo 26 = .ok (.getfield 66, 3) := by decide +kernel
theorem dX0_undo_29 : decode cX0_undo 29 = .ok (.laload, 1) := by decide +kernel
theorem dX0_undo_30 : decode cX0_undo 30 = .ok (.putfield 36, 3) := by decide +kernel
theorem dX0_undo_33 : decode cX0_undo 33 = .ok (.aload_n 0, 1) := by decide +kernel
theorem dX0_undo_34 : decode cX0_undo 34 = .ok (.aload_n 0, 1) := by decide +kernel
theorem dX0_undo_35 : decode cX0_undo 35 = .ok (.getfield 13, 3) := by decide +kernel
theorem dX0_undo_38 : decode cX0_undo 38 = .ok (.aload_n 0, 1) := by decide +kernel
theorem dX0_undo_39 : decode cX0_undo 39 = .ok (.getfield 66, 3) := by decide +kernel
theorem dX0_undo_42 : decode cX0_undo 42 = .ok (.laload, 1) := by decide +kernel
theorem dX0_undo_43 : decode cX0_undo 43 = .ok (.putfield 39, 3) := by decide +kernel
theorem dX0_undo_46 : decode cX0_undo 46 = .ok (.aload_n 0, 1) := by decide +kernel
theorem dX0_undo_47 : decode cX0_undo 47 = .ok (.aload_n 0, 1) := by decide +kernel
theorem dX0_undo_48 : decode cX0_undo 48 = .ok (.getfield 16, 3) := by decide +kernel
theorem dX0_undo_51 : decode cX0_undo 51 = .ok (.aload_n 0, 1) := by decide +kernel
theorem dX0_undo_52 : decode cX0_undo 52 = .ok (.getfield 66, 3) := by decide +kernel
theorem dX0_undo_55 : decode cX0_undo 55 = .ok (.iaload, 1) := by decide +kernel
theorem dX0_undo_56 : decode cX0_undo 56 = .ok (.sipush 1000, 3) := by decide +kernel
theorem dX0_undo_59 : decode cX0_undo 59 = .ok (.idiv, 1) := by decide +kernel
theorem dX0_undo_60 : decode cX0_undo 60 = .ok (.putfield 74, 3) := by decide +kernel
theorem dX0_undo_63 : decode cX0_undo 63 = .ok (.aload_n 0, 1) := by decide +kernel
theorem dX0_undo_64 : decode cX0_undo 64 = .ok (.aload_n 0, 1) := by decide +kernel
theorem dX0_undo_65 : decode cX0_undo 65 = .ok (.getfield 16, 3) := by decide +kernel
theorem dX0_undo_68 : decode cX0_undo 68 = .ok (.aload_n 0, 1) := by decide +kernel
theorem dX0_undo_69 : decode cX0_undo 69 = .ok (.getfield 66, 3) := by decide +kernel
theorem dX0_undo_72 : decode cX0_undo 72 = .ok (.iaload, 1) := by decide +kernel
theorem dX0_undo_73 : decode cX0_undo 73 = .ok (.sipush 1000, 3) := by decide +kernel
end
section
set_option maxRecDepth 100000
theorem dX0_undo_76 : decode cX0_undo 76 = .ok (.irem, 1) := by decide +kernel
theorem dX0_undo_77 : decode cX0_undo 77 = .ok (.putfield 77, 3) := by decide +kernel
theorem dX0_undo_80 : decode cX0_undo 80 = .ok (.aload_n 0, 1) := by decide +kernel
theorem dX0_undo_81 : decode cX0_undo 81 = .ok (.getfield 66, 3) := by decide +kernel
theorem dX0_undo_84 : decode cX0_undo 84 = .ok (.ireturn, 1) := by decide +kernel
theorem dX0_set_0 : decode cX0_set 0 = .ok (.iload_n 1, 1) := by decide +kernel
theorem dX0_set_1 : decode cX0_set 1 = .ok (.ifCond .lt 16, 3) := by decide +kernel
theorem dX0_set_4 : decode cX0_set 4 = .ok (.iload_n 1, 1) := by decide +kernel
theorem dX0_set_5 : decode cX0_set 5 = .ok (.iconst 2, 1) := by decide +kernel
theorem dX0_set_6 : decode cX0_set 6 = .ok (.if_icmp .gt 11, 3) := by decide +kernel
theorem dX0_set_9 : decode cX0_set 9 = .ok (.aload_n 0, 1) := by decide +kernel
theorem dX0_set_10 : decode cX0_set 10 = .ok (.iload_n 2, 1) := by decide +kernel
theorem dX0_set_11 : decode cX0_set 11 = .ok (.invokevirtual 50, 3) := by decide +kernel
theorem dX0_set_14 : decode cX0_set 14 = .ok (.ifCond .eq 5, 3) := by decide +kernel
theorem dX0_set_17 : decode cX0_set 17 = .ok (.iconst (-1), 1) := by decide +kernel
theorem dX0_set_18 : decode cX0_set 18 = .ok (.ireturn, 1) := by decide +kernel
theorem dX0_set_19 : decode cX0_set 19 = .ok (.lconst 1, 1) := by decide +kernel
theorem dX0_set_20 : decode cX0_set 20 = .ok (.iload_n 2, 1) := by decide +kernel
theorem dX0_set_21 : decode cX0_set 21 = .ok (.lshl, 1) := by decide +kernel
theorem dX0_set_22 : decode cX0_set 22 = .ok (.lstore_n 3, 1) := by decide +kernel
theorem dX0_set_23 : decode cX0_set 23 = .ok (.aload_n 0, 1) := by decide +kernel
theorem dX0_set_24 : decode cX0_set 24 = .ok (.getfield 36, 3) := by decide +kernel
theorem dX0_set_27 : decode cX0_set 27 = .ok (.aload_n 0, 1) := by decide +kernel
theorem dX0_set_28 : decode cX0_set 28 = .ok (.getfield 39, 3) := by decide +kernel
theorem dX0_set_31 : decode cX0_set 31 = .ok (.lor, 1) := by decide +kernel
theorem dX0_set_32 : decode cX0_set 32 = .ok (.lload_n 3, 1) := by decide +kernel
theorem dX0_set_33 : decode cX0_set 33 = .ok (.land, 1) := by decide +kernel
theorem dX0_set_34 : decode cX0_set 34 = .ok (.lconst 0, 1) := by decide +kernel
theorem dX0_set_35 : decode cX0_set 35 = .ok (.lcmp, 1) := by decide +kernel
theorem dX0_set_36 : decode cX0_set 36 = .ok (.ifCond .eq 7, 3) := by decide +kernel
theorem dX0_set_39 : decode cX0_set 39 = .ok (.iconst 1, 1) := by decide +kernel
theorem dX0_set_40 : decode cX0_set 40 = .ok (.goto 4, 3) := by decide +kernel
theorem dX0_set_43 : decode cX0_set 43 = .ok (.iconst 0, 1) := by decide +kernel
theorem dX0_set_44 : decode cX0_set 44 = .ok (.istore 5, 2) := by decide +kernel
theorem dX0_set_46 : decode cX0_set 46 = .ok (.iload 5, 2) := by decide +kernel
theorem dX0_set_48 : decode cX0_set 48 = .ok (.iload_n 1, 1) := by decide +kernel
theorem dX0_set_49 : decode cX0_set 49 = .ok (.iconst 2, 1) := by decide +kernel
theorem dX0_set_50 : decode cX0_set 50 = .ok (.if_icmp .eq 7, 3) := by decide +kernel
theorem dX0_set_53 : decode cX0_set 53 = .ok (.iconst 1, 1) := by decide +kernel
theorem dX0_set_54 : decode cX0_set 54 = .ok (.goto 4, 3) := by decide +kernel
theorem dX0_set_57 : decode cX0_set 57 = .ok (.iconst 0, 1) := by decide +kernel
theorem dX0_set_58 : decode cX0_set 58 = .ok (.if_icmp .ne 6, 3) := by decide +kernel
theorem dX0_set_61 : decode cX0_set 61 = .ok (.bipush (-2), 2) := by decide +kernel
theorem dX0_set_63 : decode cX0_set 63 = .ok (.ireturn, 1) := by decide +kernel
theorem dX0_set_64 : decode cX0_set 64 = .ok (.iload_n 1, 1) := by decide +kernel
theorem dX0_set_65 : decode cX0_set 65 = .ok (.ifCond .ne 16, 3) := by decide +kernel
theorem dX0_set_68 : decode cX0_set 68 = .ok (.aload_n 0, 1) := by decide +kernel
theorem dX0_set_69 : decode cX0_set 69 = .ok (.aload_n 0, 1) := by decide +kernel
theorem dX0_set_70 : decode cX0_set 70 = .ok (.getfield 36, 3) := by decide +kernel
theorem dX0_set_73 : decode cX0_set 73 = .ok (.lload_n 3, 1) := by decide +kernel
theorem dX0_set_74 : decode cX0_set 74 = .ok (.lor, 1) := by decide +kernel
theorem dX0_set_75 : decode cX0_set 75 = .ok (.putfield 36, 3) := by decide +kernel
theorem dX0_set_78 : decode cX0_set 78 = .ok (.goto 49, 3) := by decide +kernel
theorem dX0_set_81 : decode cX0_set 81 = .ok (.iload_n 1, 1) := by decide +kernel
theorem dX0_set_82 : decode cX0_set 82 = .ok (.iconst 1, 1) := by decide +kernel
theorem dX0_set_83 : decode cX0_set 83 = .ok (.if_icmp .ne 16, 3) := by decide +kernel
theorem dX0_set_86 : decode cX0_set 86 = .ok (.aload_n 0, 1) := by decide +kernel
theorem dX0_set_87 : decode cX0_set 87 = .ok (.aload_n 0, 1) := by decide +kernel
theorem dX0_set_88 : decode cX0_set 88 = .ok (.getfield 39, 3) := by decide +kernel
theorem dX0_set_91 : decode cX0_set 91 = .ok (.lload_n 3, 1) := by decide +kernel
theorem dX0_set_92 : decode cX0_set 92 = .ok (.lor, 1) := by decide +kernel
theorem dX0_set_93 : decode cX0_set 93 = .ok (.putfield 39, 3) := by decide +kernel
theorem dX0_set_96 : decode cX0_set 96 = .ok (.goto 31, 3) := by decide +kernel
theorem dX0_set_99 : decode cX0_set 99 = .ok (.aload_n 0, 1) := by decide +kernel
theorem dX0_set_100 : decode cX0_set 100 = .ok (.aload_n 0, 1) := by decide +kernel
theorem dX0_set_101 : decode cX0_set 101 = .ok (.getfield 36, 3) := by decide +kernel
theorem dX0_set_104 : decode cX0_set 104 = .ok (.lload_n 3, 1) := by decide +kernel
theorem dX0_set_105 : decode cX0_set 105 = .ok (.ldc2_w 24, 3) := by decide +kernel
theorem dX0_set_108 : decode cX0_set 108 = .ok (.lxor, 1) := by decide +kernel
theorem dX0_set_109 : decode cX0_set 109 = .ok (.land, 1) := by decide +kernel
theorem dX0_set_110 : decode cX0_set 110 = .ok (.putfield 36, 3) := by decide +kernel
theorem dX0_set_113 : decode cX0_set 113 = .ok (.aload_n 0, 1) := by decide +kernel
theorem dX0_set_114 : decode cX0_set 114 = .ok (.aload_n 0, 1) := by decide +kernel
theorem dX0_set_115 : decode cX0_set 115 = .ok (.getfield 39, 3) := by decide +kernel
theorem dX0_set_118 : decode cX0_set 118 = .ok (.lload_n 3, 1) := by decide +kernel
theorem dX0_set_119 : decode cX0_set 119 = .ok (.ldc2_w 24, 3) := by decide +kernel
theorem dX0_set_122 : decode cX0_set 122 = .ok (.lxor, 1) := by decide +kernel
theorem dX0_set_123 : decode cX0_set 123 = .ok (.land, 1) := by decide +kernel
theorem dX0_set_124 : decode cX0_set 124 = .ok (.putfield 39, 3) := by decide +kernel
theorem dX0_set_127 : decode cX0_set 127 = .ok (.aload_n 0, 1) := by decide +kernel
theorem dX0_set_128 : decode cX0_set 128 = .ok (.iconst 0, 1) := by decide +kernel
theorem dX0_set_129 : decode cX0_set 129 = .ok (.putfield 66, 3) := by decide +kernel
theorem dX0_set_132 : decode cX0_set 132 = .ok (.aload_n 0, 1) := by decide +kernel
theorem dX0_set_133 : decode cX0_set 133 = .ok (.iconst 0, 1) := by decide +kernel
theorem dX0_set_134 : decode cX0_set 134 = .ok (.putfield 74, 3) := by decide +kernel
theorem dX0_set_137 : decode cX0_set 137 = .ok (.aload_n 0, 1) := by decide +kernel
theorem dX0_set_138 : decode cX0_set 138 = .ok (.iconst 0, 1) := by decide +kernel
theorem dX0_set_139 : decode cX0_set 139 = .ok (.putfield 77, 3) := by decide +kernel
theorem dX0_set_142 : decode cX0_set 142 = .ok (.iconst 0, 1) := by decide +kernel
theorem dX0_set_143 : decode cX0_set 143 = .ok (.ireturn, 1) := by decide +kernel
theorem dX0_at_0 : decode cX0_at 0 = .ok (.aload_n 0, 1) := by decide +kernel
theorem dX0_at_1 : decode cX0_at 1 = .ok (.iload_n 1, 1) := by decide +kernel
theorem dX0_at_2 : decode cX0_at 2 = .ok (.invokevirtual 50, 3) := by decide +kernel
theorem dX0_at_5 : decode cX0_at 5 = .ok (.ifCond .eq 5, 3) := by decide +kernel
theorem dX0_at_8 : decode cX0_at 8 = .ok (.iconst (-1), 1) := by decide +kernel
theorem dX0_at_9 : decode cX0_at 9 = .ok (.ireturn, 1) := by decide +kernel
theorem dX0_at_10 : decode cX0_at 10 = .ok (.aload_n 0, 1) := by decide +kernel
theorem dX0_at_11 : decode cX0_at 11 = .ok (.getfield 36, 3) := by decide +kernel
theorem dX0_at_14 : decode cX0_at 14 = .ok (.iload_n 1, 1) := by decide +kernel
theorem dX0_at_15 : decode cX0_at 15 = .ok (.lushr, 1) := by decide +kernel
theorem dX0_at_16 : decode cX0_at 16 = .ok (.lconst 1, 1) := by decide +kernel
theorem dX0_at_17 : decode cX0_at 17 = .ok (.land, 1) := by decide +kernel
theorem dX0_at_18 : decode cX0_at 18 = .ok (.lconst 1, 1) := by decide +kernel
theorem dX0_at_19 : decode cX0_at 19 = .ok (.lcmp, 1) := by decide +kernel
theorem dX0_at_20 : decode cX0_at 20 = .ok (.ifCond .ne 5, 3) := by decide +kernel
theorem dX0_at_23 : decode cX0_at 23 = .ok (.iconst 0, 1) := by decide +kernel
theorem dX0_at_24 : decode cX0_at 24 = .ok (.ireturn, 1) := by decide +kernel
theorem dX0_at_25 : decode cX0_at 25 = .ok (.aload_n 0, 1) := by decide +kernel
theorem dX0_at_26 : decode cX0_at 26 = .ok (.getfield 39, 3) := by decide +kernel
theorem dX0_at_29 : decode cX0_at 29 = .ok (.iload_n 1, 1) := by decide +kernel
theorem dX0_at_30 : decode cX0_at 30 = .ok (.lushr, 1) := by decide +kernel
theorem dX0_at_31 : decode cX0_at 31 = .ok (.lconst 1, 1) := by decide +kernel
theorem dX0_at_32 : decode cX0_at 32 = .ok (.land, 1) := by decide +kernel
theorem dX0_at_33 : decode cX0_at 33 = .ok (.lconst 1, 1) := by decide +kernel
theorem dX0_at_34 : decode cX0_at 34 = .ok (.lcmp, 1) := by decide +kernel
theorem dX0_at_35 : decode cX0_at 35 = .ok (.ifCond .ne 7, 3) := by decide +kernel
theorem dX0_at_38 : decode cX0_at 38 = .ok (.iconst 1, 1) := by decide +kernel
theorem dX0_at_39 : decode cX0_at 39 = .ok (.goto 4, 3) := by decide +kernel
theorem dX0_at_42 : decode cX0_at 42 = .ok (.iconst 2, 1) := by decide +kernel
theorem dX0_at_43 : decode cX0_at 43 = .ok (.ireturn, 1) := by decide +kernel
theorem dX0_captured_0 : decode cX0_captured 0 = .ok (.aload_n 0, 1) := by decide +kernel
theorem dX0_captured_1 : decode cX0_captured 1 = .ok (.iload_n 1, 1) := by decide +kernel
theorem dX0_captured_2 : decode cX0_captured 2 = .ok (.invokevirtual 46, 3) := by decide +kernel
theorem dX0_captured_5 : decode cX0_captured 5 = .ok (.ifCond .eq 5, 3) := by decide +kernel
theorem dX0_captured_8 : decode cX0_captured 8 = .ok (.iconst (-1), 1) := by decide +kernel
theorem dX0_captured_9 : decode cX0_captured 9 = .ok (.ireturn, 1) := by decide +kernel
theorem dX0_captured_10 : decode cX0_captured 10 = .ok (.iload_n 1, 1) := by decide +kernel
theorem dX0_captured_11 : decode cX0_captured 11 = .ok (.ifCond .ne 10, 3) := by decide +kernel
theorem dX0_captured_14 : decode cX0_captured 14 = .ok (.aload_n 0, 1) := by decide +kernel
theorem dX0_captured_15 : decode cX0_captured 15 = .ok (.getfield 74, 3) := by decide +kernel
theorem dX0_captured_18 : decode cX0_captured 18 = .ok (.goto 7, 3) := by decide +kernel
theorem dX0_captured_21 : decode cX0_captured 21 = .ok (.aload_n 0, 1) := by decide +kernel
theorem dX0_captured_22 : decode cX0_captured 22 = .ok (.getfield 77, 3) := by decide +kernel
theorem dX0_captured_25 : decode cX0_captured 25 = .ok (.ireturn, 1) := by decide +kernel
theorem dX0_groupSize_0 : decode cX0_groupSize 0 = .ok (.aload_n 0, 1) := by decide +kernel
theorem dX0_groupSize_1 : decode cX0_groupSize 1 = .ok (.iload_n 1, 1) := by decide +kernel
theorem dX0_groupSize_2 : decode cX0_groupSize 2 = .ok (.invokevirtual 87, 3) := by decide +kernel
theorem dX0_groupSize_5 : decode cX0_groupSize 5 = .ok (.istore_n 2, 1) := by decide +kernel
theorem dX0_groupSize_6 : decode cX0_groupSize 6 = .ok (.iload_n 2, 1) := by decide +kernel
theorem dX0_groupSize_7 : decode cX0_groupSize 7 = .ok (.iconst (-1), 1) := by decide +kernel
theorem dX0_groupSize_8 : decode cX0_groupSize 8 = .ok (.if_icmp .eq 8, 3) := by decide +kernel
theorem dX0_groupSize_11 : decode cX0_groupSize 11 = .ok (.iload_n 2, 1) := by decide +kernel
theorem dX0_groupSize_12 : decode cX0_groupSize 12 = .ok (.iconst 2, 1) := by decide +kernel
theorem dX0_groupSize_13 : decode cX0_groupSize 13 = .ok (.if_icmp .ne 15, 3) := by decide +kernel
theorem dX0_groupSize_16 : decode cX0_groupSize 16 = .ok (.iload_n 2, 1) := by decide +kernel
theorem dX0_groupSize_17 : decode cX0_groupSize 17 = .ok (.iconst 2, 1) := by decide +kernel
theorem dX0_groupSize_18 : decode cX0_groupSize 18 = .ok (.if_icmp .ne 8, 3) := by decide +kernel
theorem dX0_groupSize_21 : decode cX0_groupSize 21 = .ok (.bipush (-2), 2) := by decide +kernel
theorem dX0_groupSize_23 : decode cX0_groupSize 23 = .ok (.goto 4, 3) := by decide +kernel
theorem dX0_groupSize_26 : decode cX0_groupSize 26 = .ok (.iconst (-1), 1) := by decide +kernel
theorem dX0_groupSize_27 : decode cX0_groupSize 27 = .ok (.ireturn, 1) := by decide +kernel
theorem dX0_groupSize_28 : decode cX0_groupSize 28 = .ok (.aload_n 0, 1) := by decide +kernel
theorem dX0_groupSize_29 : decode cX0_groupSize 29 = .ok (.iload_n 1, 1) := by decide +kernel
theorem dX0_groupSize_30 : decode cX0_groupSize 30 = .ok (.invokevirtual 91, 3) := by decide +kernel
theorem dX0_groupSize_33 : decode cX0_groupSize 33 = .ok (.lstore_n 3, 1) := by decide +kernel
theorem dX0_groupSize_34 : decode cX0_groupSize 34 = .ok (.aload_n 0, 1) := by decide +kernel
theorem dX0_groupSize_35 : decode cX0_groupSize 35 = .ok (.lload_n 3, 1) := by decide +kernel
theorem dX0_groupSize_36 : decode cX0_groupSize 36 = .ok (.invokevirtual 70, 3) := by decide +kernel
theorem dX0_groupSize_39 : decode cX0_groupSize 39 = .ok (.ireturn, 1) := by decide +kernel
theorem dX0_groupAt_0 : decode cX0_groupAt 0 = .ok (.lconst 1, 1) := by decide +kernel
theorem dX0_groupAt_1 : decode cX0_groupAt 1 = .ok (.iload_n 1, 1) := by decide +kernel
theorem dX0_groupAt_2 : decode cX0_groupAt 2 = .ok (.lshl, 1) := by decide +kernel
theorem dX0_groupAt_3 : decode cX0_groupAt 3 = .ok (.lstore_n 2, 1) := by decide +kernel
theorem dX0_groupAt_4 : decode cX0_groupAt 4 = .ok (.aload_n 0, 1) := by decide +kernel
theorem dX0_groupAt_5 : decode cX0_groupAt 5 = .ok (.getfield 36, 3) := by decide +kernel
theorem dX0_groupAt_8 : decode cX0_groupAt 8 = .ok (.lload_n 2, 1) := by decide +kernel
theorem dX0_groupAt_9 : decode cX0_groupAt 9 = .ok (.land, 1) := by decide +kernel
theorem dX0_groupAt_10 : decode cX0_groupAt 10 = .ok (.lconst 0, 1) := by decide +kernel
theorem dX0_groupAt_11 : decode cX0_groupAt 11 = .ok (.lcmp, 1) := by decide +kernel
theorem dX0_groupAt_12 : decode cX0_groupAt 12 = .ok (.ifCond .eq 15, 3) := by decide +kernel
theorem dX0_groupAt_15 : decode cX0_groupAt 15 = .ok (.aload_n 0, 1) := by decide +kernel
theorem dX0_groupAt_16 : decode cX0_groupAt 16 = .ok (.lload_n 2, 1) := by decide +kernel
theorem dX0_groupAt_17 : decode cX0_groupAt 17 = .ok (.aload_n 0, 1) := by decide +kernel
theorem dX0_groupAt_18 : decode cX0_groupAt 18 = .ok (.getfield 36, 3) := by decide +kernel
theorem dX0_groupAt_21 : decode cX0_groupAt 21 = .ok (.invokevirtual 42, 3) := by decide +kernel
theorem dX0_groupAt_24 : decode cX0_groupAt 24 = .ok (.goto 12, 3) := by decide +kernel
theorem dX0_groupAt_27 : decode cX0_groupAt 27 = .ok (.aload_n 0, 1) := by decide +kernel
theorem dX0_groupAt_28 : decode cX0_groupAt 28 = .ok (.lload_n 2, 1) := by decide +kernel
theorem dX0_groupAt_29 : decode cX0_groupAt 29 = .ok (.aload_n 0, 1) := by decide +kernel
theorem dX0_groupAt_30 : decode cX0_groupAt 30 = .ok (.getfield 39, 3) := by decide +kernel
theorem dX0_groupAt_33 : decode cX0_groupAt 33 = .ok (.invokevirtual 42, 3) := by decide +kernel
theorem dX0_groupAt_36 : decode cX0_groupAt 36 = .ok (.lreturn, 1) := by decide +kernel
theorem dX0_liberties_0 : decode cX0_liberties 0 = .ok (.aload_n 0, 1) := by decide +kernel
theorem dX0_liberties_1 : decode cX0_liberties 1 = .ok (.iload_n 1, 1) := by decide +kernel
theorem dX0_liberties_2 : decode cX0_liberties 2 = .ok (.invokevirtual 87, 3) := by decide +kernel
theorem dX0_liberties_5 : decode cX0_liberties 5 = .ok (.istore_n 2, 1) := by decide +kernel
theorem dX0_liberties_6 : decode cX0_liberties 6 = .ok (.iload_n 2, 1) := by decide +kernel
theorem dX0_liberties_7 : decode cX0_liberties 7 = .ok (.iconst (-1), 1) := by decide +kernel
theorem dX0_liberties_8 : decode cX0_liberties 8 = .ok (.if_icmp .eq 8, 3) := by decide +kernel
theorem dX0_liberties_11 : decode cX0_liberties 11 = .ok (.iload_n 2, 1) := by decide +kernel
theorem dX0_liberties_12 : decode cX0_liberties 12 = .ok (.iconst 2, 1) := by decide +kernel
theorem dX0_liberties_13 : decode cX0_liberties 13 = .ok (.if_icmp .ne 15, 3) := by decide +kernel
theorem dX0_liberties_16 : decode cX0_liberties 16 = .ok (.iload_n 2, 1) := by decide +kernel
theorem dX0_liberties_17 : decode cX0_liberties 17 = .ok (.iconst 2, 1) := by decide +kernel
theorem dX0_liberties_18 : decode cX0_liberties 18 = .ok (.if_icmp .ne 8, 3) := by decide +kernel
theorem dX0_liberties_21 : decode cX0_liberties 21 = .ok (.bipush (-2), 2) := by decide +kernel
theorem dX0_liberties_23 : decode cX0_liberties 23 = .ok (.goto 4, 3) := by decide +kernel
theorem dX0_liberties_26 : decode cX0_liberties 26 = .ok (.iconst (-1), 1) := by decide +kernel
theorem dX0_liberties_27 : decode cX0_liberties 27 = .ok (.ireturn, 1) := by decide +kernel
theorem dX0_liberties_28 : decode cX0_liberties 28 = .ok (.aload_n 0, 1) := by decide +kernel
theorem dX0_liberties_29 : decode cX0_liberties 29 = .ok (.iload_n 1, 1) := by decide +kernel
theorem dX0_liberties_30 : decode cX0_liberties 30 = .ok (.invokevirtual 91, 3) := by decide +kernel
theorem dX0_liberties_33 : decode cX0_liberties 33 = .ok (.lstore_n 3, 1) := by decide +kernel
theorem dX0_liberties_34 : decode cX0_liberties 34 = .ok (.aload_n 0, 1) := by decide +kernel
theorem dX0_liberties_35 : decode cX0_liberties 35 = .ok (.invokevirtual 94, 3) := by decide +kernel
theorem dX0_liberties_38 : decode cX0_liberties 38 = .ok (.lstore 5, 2) := by decide +kernel
theorem dX0_liberties_40 : decode cX0_liberties 40 = .ok (.aload_n 0, 1) := by decide +kernel
theorem dX0_liberties_41 : decode cX0_liberties 41 = .ok (.lload_n 3, 1) := by decide +kernel
theorem dX0_liberties_42 : decode cX0_liberties 42 = .ok (.invokevirtual 32, 3) := by decide +kernel
theorem dX0_liberties_45 : decode cX0_liberties 45 = .ok (.lload 5, 2) := by decide +kernel
theorem dX0_liberties_47 : decode cX0_liberties 47 = .ok (.land, 1) := by decide +kernel
theorem dX0_liberties_48 : decode cX0_liberties 48 = .ok (.lstore 7, 2) := by decide +kernel
theorem dX0_liberties_50 : decode cX0_liberties 50 = .ok (.aload_n 0, 1) := by decide +kernel
theorem dX0_liberties_51 : decode cX0_liberties 51 = .ok (.lload 7, 2) := by decide +kernel
theorem dX0_liberties_53 : decode cX0_liberties 53 = .ok (.invokevirtual 70, 3) := by decide +kernel
theorem dX0_liberties_56 : decode cX0_liberties 56 = .ok (.ireturn, 1) := by decide +kernel
theorem dX0_empty_0 : decode cX0_empty 0 = .ok (.aload_n 0, 1) := by decide +kernel
theorem dX0_empty_1 : decode cX0_empty 1 = .ok (.getfield 20, 3) := by decide +kernel
theorem dX0_empty_4 : decode cX0_empty 4 = .ok (.aload_n 0, 1) := by decide +kernel
theorem dX0_empty_5 : decode cX0_empty 5 = .ok (.getfield 36, 3) := by decide +kernel
theorem dX0_empty_8 : decode cX0_empty 8 = .ok (.aload_n 0, 1) := by decide +kernel
theorem dX0_empty_9 : decode cX0_empty 9 = .ok (.getfield 39, 3) := by decide +kernel
theorem dX0_empty_12 : decode cX0_empty 12 = .ok (.lor, 1) := by decide +kernel
theorem dX0_empty_13 : decode cX0_empty 13 = .ok (.ldc2_w 24, 3) := by decide +kernel
theorem dX0_empty_16 : decode cX0_empty 16 = .ok (.lxor, 1) := by decide +kernel
theorem dX0_empty_17 : decode cX0_empty 17 = .ok (.land, 1) := by decide +kernel
theorem dX0_empty_18 : decode cX0_empty 18 = .ok (.lreturn, 1) := by decide +kernel
theorem dX0_trial_0 : decode cX0_trial 0 = .ok (.aload_n 0, 1) := by decide +kernel
theorem dX0_trial_1 : decode cX0_trial 1 = .ok (.iload_n 1, 1) := by decide +kernel
theorem dX0_trial_2 : decode cX0_trial 2 = .ok (.iload_n 2, 1) := by decide +kernel
theorem dX0_trial_3 : decode cX0_trial 3 = .ok (.invokevirtual 80, 3) := by decide +kernel
theorem dX0_trial_6 : decode cX0_trial 6 = .ok (.ireturn, 1) := by decide +kernel
theorem dX0_moves_0 : decode cX0_moves 0 = .ok (.aload_n 0, 1) := by decide +kernel
theorem dX0_moves_1 : decode cX0_moves 1 = .ok (.iload_n 1, 1) := by decide +kernel
theorem dX0_moves_2 : decode cX0_moves 2 = .ok (.invokevirtual 46, 3) := by decide +kernel
theorem dX0_moves_5 : decode cX0_moves 5 = .ok (.ifCond .eq 5, 3) := by decide +kernel
theorem dX0_moves_8 : decode cX0_moves 8 = .ok (.iconst (-1), 1) := by decide +kernel
theorem dX0_moves_9 : decode cX0_moves 9 = .ok (.ireturn, 1) := by decide +kernel
theorem dX0_moves_10 : decode cX0_moves 10 = .ok (.iconst 0, 1) := by decide +kernel
theorem dX0_moves_11 : decode cX0_moves 11 = .ok (.istore_n 2, 1) := by decide +kernel
theorem dX0_moves_12 : decode cX0_moves 12 = .ok (.iconst 0, 1) := by decide +kernel
theorem dX0_moves_13 : decode cX0_moves 13 = .ok (.istore_n 3, 1) := by decide +kernel
theorem dX0_moves_14 : decode cX0_moves 14 = .ok (.iload_n 3, 1) := by decide +kernel
theorem dX0_moves_15 : decode cX0_moves 15 = .ok (.bipush 49, 2) := by decide +kernel
theorem dX0_moves_17 : decode cX0_moves 17 = .ok (.if_icmp .ge 25, 3) := by decide +kernel
theorem dX0_moves_20 : decode cX0_moves 20 = .ok (.aload_n 0, 1) := by decide +kernel
theorem dX0_moves_21 : decode cX0_moves 21 = .ok (.iload_n 1, 1) := by decide +kernel
theorem dX0_moves_22 : decode cX0_moves 22 = .ok (.iload_n 3, 1) := by decide +kernel
theorem dX0_moves_23 : decode cX0_moves 23 = .ok (.invokevirtual 80, 3) := by decide +kernel
theorem dX0_moves_26 : decode cX0_moves 26 = .ok (.istore 4, 2) := by decide +kernel
theorem dX0_moves_28 : decode cX0_moves 28 = .ok (.iload 4, 2) := by decide +kernel
theorem dX0_moves_30 : decode cX0_moves 30 = .ok (.ifCond .lt 6, 3) := by decide +kernel
theorem dX0_moves_33 : decode cX0_moves 33 = .ok (.iinc 2 1, 3) := by decide +kernel
theorem dX0_moves_36 : decode cX0_moves 36 = .ok (.iinc 3 1, 3) := by decide +kernel
theorem dX0_moves_39 : decode cX0_moves 39 = .ok (.goto (-25), 3) := by decide +kernel
theorem dX0_moves_42 : decode cX0_moves 42 = .ok (.iload_n 2, 1) := by decide +kernel
theorem dX0_moves_43 : decode cX0_moves 43 = .ok (.ireturn, 1) := by decide +kernel
theorem dX0_groups_0 : decode cX0_groups 0 = .ok (.aload_n 0, 1) := by decide +kernel
theorem dX0_groups_1 : decode cX0_groups 1 = .ok (.iload_n 1, 1) := by decide +kernel
theorem dX0_groups_2 : decode cX0_groups 2 = .ok (.invokevirtual 46, 3) := by decide +kernel
theorem dX0_groups_5 : decode cX0_groups 5 = .ok (.ifCond .eq 5, 3) := by decide +kernel
theorem dX0_groups_8 : decode cX0_groups 8 = .ok (.iconst (-1), 1) := by decide +kernel
theorem dX0_groups_9 : decode cX0_groups 9 = .ok (.ireturn, 1) := by decide +kernel
theorem dX0_groups_10 : decode cX0_groups 10 = .ok (.aload_n 0, 1) := by decide +kernel
theorem dX0_groups_11 : decode cX0_groups 11 = .ok (.iload_n 1, 1) := by decide +kernel
theorem dX0_groups_12 : decode cX0_groups 12 = .ok (.invokevirtual 53, 3) := by decide +kernel
theorem dX0_groups_15 : decode cX0_groups 15 = .ok (.lstore_n 2, 1) := by decide +kernel
theorem dX0_groups_16 : decode cX0_groups 16 = .ok (.iconst 0, 1) := by decide +kernel
theorem dX0_groups_17 : decode cX0_groups 17 = .ok (.istore 4, 2) := by decide +kernel
theorem dX0_groups_19 : decode cX0_groups 19 = .ok (.iconst 0, 1) := by decide +kernel
theorem dX0_groups_20 : decode cX0_groups 20 = .ok (.istore 5, 2) := by decide +kernel
theorem dX0_groups_22 : decode cX0_groups 22 = .ok (.iload 5, 2) := by decide +kernel
theorem dX0_groups_24 : decode cX0_groups 24 = .ok (.bipush 49, 2) := by decide +kernel
theorem dX0_groups_26 : decode cX0_groups 26 = .ok (.if_icmp .ge 43, 3) := by decide +kernel
theorem dX0_groups_29 : decode cX0_groups 29 = .ok (.lload_n 2, 1) := by decide +kernel
theorem dX0_groups_30 : decode cX0_groups 30 = .ok (.lconst 0, 1) := by decide +kernel
theorem dX0_groups_31 : decode cX0_groups 31 = .ok (.lcmp, 1) := by decide +kernel
theorem dX0_groups_32 : decode cX0_groups 32 = .ok (.ifCond .eq 37, 3) := by decide +kernel
theorem dX0_groups_35 : decode cX0_groups 35 = .ok (.aload_n 0, 1) := by decide +kernel
theorem dX0_groups_36 : decode cX0_groups 36 = .ok (.lload_n 2, 1) := by decide +kernel
theorem dX0_groups_37 : decode cX0_groups 37 = .ok (.invokevirtual 98, 3) := by decide +kernel
theorem dX0_groups_40 : decode cX0_groups 40 = .ok (.lstore 6, 2) := by decide +kernel
theorem dX0_groups_42 : decode cX0_groups 42 = .ok (.aload_n 0, 1) := by decide +kernel
theorem dX0_groups_43 : decode cX0_groups 43 = .ok (.lload 6, 2) := by decide +kernel
theorem dX0_groups_45 : decode cX0_groups 45 = .ok (.lload_n 2, 1) := by decide +kernel
theorem dX0_groups_46 : decode cX0_groups 46 = .ok (.invokevirtual 42, 3) := by decide +kernel
theorem dX0_groups_49 : decode cX0_groups 49 = .ok (.lstore 8, 2) := by decide +kernel
theorem dX0_groups_51 : decode cX0_groups 51 = .ok (.lload_n 2, 1) := by decide +kernel
theorem dX0_groups_52 : decode cX0_groups 52 = .ok (.lload 8, 2) := by decide +kernel
theorem dX0_groups_54 : decode cX0_groups 54 = .ok (.ldc2_w 24, 3) := by decide +kernel
theorem dX0_groups_57 : decode cX0_groups 57 = .ok (.lxor, 1) := by decide +kernel
theorem dX0_groups_58 : decode cX0_groups 58 = .ok (.land, 1) := by decide +kernel
theorem dX0_groups_59 : decode cX0_groups 59 = .ok (.lstore_n 2, 1) := by decide +kernel
theorem dX0_groups_60 : decode cX0_groups 60 = .ok (.iinc 4 1, 3) := by decide +kernel
theorem dX0_groups_63 : decode cX0_groups 63 = .ok (.iinc 5 1, 3) := by decide +kernel
theorem dX0_groups_66 : decode cX0_groups 66 = .ok (.goto (-44), 3) := by decide +kernel
theorem dX0_groups_69 : decode cX0_groups 69 = .ok (.iload 4, 2) := by decide +kernel
theorem dX0_groups_71 : decode cX0_groups 71 = .ok (.ireturn, 1) := by decide +kernel
theorem dX0_lowest_0 : decode cX0_lowest 0 = .ok (.lload_n 1, 1) := by decide +kernel
theorem dX0_lowest_1 : decode cX0_lowest 1 = .ok (.lload_n 1, 1) := by decide +kernel
theorem dX0_lowest_2 : decode cX0_lowest 2 = .ok (.lneg, 1) := by decide +kernel
theorem dX0_lowest_3 : decode cX0_lowest 3 = .ok (.land, 1) := by decide +kernel
theorem dX0_lowest_4 : decode cX0_lowest 4 = .ok (.lreturn, 1) := by decide +kernel
theorem dX0_inAtari_0 : decode cX0_inAtari 0 = .ok (.aload_n 0, 1) := by decide +kernel
theorem dX0_inAtari_1 : decode cX0_inAtari 1 = .ok (.iload_n 1, 1) := by decide +kernel
theorem dX0_inAtari_2 : decode cX0_inAtari 2 = .ok (.invokevirtual 46, 3) := by decide +kernel
theorem dX0_inAtari_5 : decode cX0_inAtari 5 = .ok (.ifCond .eq 5, 3) := by decide +kernel
theorem dX0_inAtari_8 : decode cX0_inAtari 8 = .ok (.iconst (-1), 1) := by decide +kernel
theorem dX0_inAtari_9 : decode cX0_inAtari 9 = .ok (.ireturn, 1) := by decide +kernel
theorem dX0_inAtari_10 : decode cX0_inAtari 10 = .ok (.aload_n 0, 1) := by decide +kernel
theorem dX0_inAtari_11 : decode cX0_inAtari 11 = .ok (.invokevirtual 94, 3) := by decide +kernel
theorem dX0_inAtari_14 : decode cX0_inAtari 14 = .ok (.lstore_n 2, 1) := by decide +kernel
theorem dX0_inAtari_15 : decode cX0_inAtari 15 = .ok (.aload_n 0, 1) := by decide +kernel
theorem dX0_inAtari_16 : decode cX0_inAtari 16 = .ok (.iload_n 1, 1) := by decide +kernel
theorem dX0_inAtari_17 : decode cX0_inAtari 17 = .ok (.invokevirtual 53, 3) := by decide +kernel
theorem dX0_inAtari_20 : decode cX0_inAtari 20 = .ok (.lstore 4, 2) := by decide +kernel
theorem dX0_inAtari_22 : decode cX0_inAtari 22 = .ok (.iconst 0, 1) := by decide +kernel
theorem dX0_inAtari_23 : decode cX0_inAtari 23 = .ok (.istore 6, 2) := by decide +kernel
theorem dX0_inAtari_25 : decode cX0_inAtari 25 = .ok (.iconst 0, 1) := by decide +kernel
theorem dX0_inAtari_26 : decode cX0_inAtari 26 = .ok (.istore 7, 2) := by decide +kernel
theorem dX0_inAtari_28 : decode cX0_inAtari 28 = .ok (.iload 7, 2) := by decide +kernel
theorem dX0_inAtari_30 : decode cX0_inAtari 30 = .ok (.bipush 49, 2) := by decide +kernel
theorem dX0_inAtari_32 : decode cX0_inAtari 32 = .ok (.if_icmp .ge 89, 3) := by decide +kernel
theorem dX0_inAtari_35 : decode cX0_inAtari 35 = .ok (.lload 4, 2) := by decide +kernel
theorem dX0_inAtari_37 : decode cX0_inAtari 37 = .ok (.lconst 0, 1) := by decide +kernel
theorem dX0_inAtari_38 : decode cX0_inAtari 38 = .ok (.lcmp, 1) := by decide +kernel
theorem dX0_inAtari_39 : decode cX0_inAtari 39 = .ok (.ifCond .eq 82, 3) := by decide +kernel
theorem dX0_inAtari_42 : decode cX0_inAtari 42 = .ok (.aload_n 0, 1) := by decide +kernel
theorem dX0_inAtari_43 : decode cX0_inAtari 43 = .ok (.lload 4, 2) := by decide +kernel
theorem dX0_inAtari_45 : decode cX0_inAtari 45 = .ok (.invokevirtual 98, 3) := by decide +kernel
theorem dX0_inAtari_48 : decode cX0_inAtari 48 = .ok (.lstore 8, 2) := by decide +kernel
theorem dX0_inAtari_50 : decode cX0_inAtari 50 = .ok (.aload_n 0, 1) := by decide +kernel
theorem dX0_inAtari_51 : decode cX0_inAtari 51 = .ok (.lload 8, 2) := by decide +kernel
theorem dX0_inAtari_53 : decode cX0_inAtari 53 = .ok (.lload 4, 2) := by decide +kernel
theorem dX0_inAtari_55 : decode cX0_inAtari 55 = .ok (.invokevirtual 42, 3) := by decide +kernel
theorem dX0_inAtari_58 : decode cX0_inAtari 58 = .ok (.lstore 10, 2) := by decide +kernel
theorem dX0_inAtari_60 : decode cX0_inAtari 60 = .ok (.aload_n 0, 1) := by decide +kernel
theorem dX0_inAtari_61 : decode cX0_inAtari 61 = .ok (.lload 10, 2) := by decide +kernel
theorem dX0_inAtari_63 : decode cX0_inAtari 63 = .ok (.invokevirtual 32, 3) := by decide +kernel
theorem dX0_inAtari_66 : decode cX0_inAtari 66 = .ok (.lload_n 2, 1) := by decide +kernel
theorem dX0_inAtari_67 : decode cX0_inAtari 67 = .ok (.land, 1) := by decide +kernel
theorem dX0_inAtari_68 : decode cX0_inAtari 68 = .ok (.lstore 12, 2) := by decide +kernel
theorem dX0_inAtari_70 : decode cX0_inAtari 70 = .ok (.lload 12, 2) := by decide +kernel
theorem dX0_inAtari_72 : decode cX0_inAtari 72 = .ok (.lconst 0, 1) := by decide +kernel
theorem dX0_inAtari_73 : decode cX0_inAtari 73 = .ok (.lcmp, 1) := by decide +kernel
theorem dX0_inAtari_74 : decode cX0_inAtari 74 = .ok (.ifCond .eq 30, 3) := by decide +kernel
theorem dX0_inAtari_77 : decode cX0_inAtari 77 = .ok (.lload 12, 2) := by decide +kernel
theorem dX0_inAtari_79 : decode cX0_inAtari 79 = .ok (.lload 12, 2) := by decide +kernel
theorem dX0_inAtari_81 : decode cX0_inAtari 81 = .ok (.lconst 1, 1) := by decide +kernel
theorem dX0_inAtari_82 : decode cX0_inAtari 82 = .ok (.lsub, 1) := by decide +kernel
theorem dX0_inAtari_83 : decode cX0_inAtari 83 = .ok (.land, 1) := by decide +kernel
theorem dX0_inAtari_84 : decode cX0_inAtari 84 = .ok (.lconst 0, 1) := by decide +kernel
theorem dX0_inAtari_85 : decode cX0_inAtari 85 = .ok (.lcmp, 1) := by decide +kernel
theorem dX0_inAtari_86 : decode cX0_inAtari 86 = .ok (.ifCond .ne 18, 3) := by decide +kernel
theorem dX0_inAtari_89 : decode cX0_inAtari 89 = .ok (.aload_n 0, 1) := by decide +kernel
theorem dX0_inAtari_90 : decode cX0_inAtari 90 = .ok (.lload 10, 2) := by decide +kernel
theorem dX0_inAtari_92 : decode cX0_inAtari 92 = .ok (.invokevirtual 70, 3) := by decide +kernel
theorem dX0_inAtari_95 : decode cX0_inAtari 95 = .ok (.istore 14, 2) := by decide +kernel
theorem dX0_inAtari_97 : decode cX0_inAtari 97 = .ok (.iload 6, 2) := by decide +kernel
theorem dX0_inAtari_99 : decode cX0_inAtari 99 = .ok (.iload 14, 2) := by decide +kernel
theorem dX0_inAtari_101 : decode cX0_inAtari 101 = .ok (.iadd, 1) := by decide +kernel
theorem dX0_inAtari_102 : decode cX0_inAtari 102 = .ok (.istore 6, 2) := by decide +kernel
theorem dX0_inAtari_104 : decode cX0_inAtari 104 = .ok (.lload 4, 2) := by decide +kernel
theorem dX0_inAtari_106 : decode cX0_inAtari 106 = .ok (.lload 10, 2) := by decide +kernel
theorem dX0_inAtari_108 : decode cX0_inAtari 108 = .ok (.ldc2_w 24, 3) := by decide +kernel
theorem dX0_inAtari_111 : decode cX0_inAtari 111 = .ok (.lxor, 1) := by decide +kernel
theorem dX0_inAtari_112 : decode cX0_inAtari 112 = .ok (.land, 1) := by decide +kernel
theorem dX0_inAtari_113 : decode cX0_inAtari 113 = .ok (.lstore 4, 2) := by decide +kernel
theorem dX0_inAtari_115 : decode cX0_inAtari 115 = .ok (.iinc 7 1, 3) := by decide +kernel
theorem dX0_inAtari_118 : decode cX0_inAtari 118 = .ok (.goto (-90), 3) := by decide +kernel
theorem dX0_inAtari_121 : decode cX0_inAtari 121 = .ok (.iload 6, 2) := by decide +kernel
theorem dX0_inAtari_123 : decode cX0_inAtari 123 = .ok (.ireturn, 1) := by decide +kernel
theorem dX0_score_0 : decode cX0_score 0 = .ok (.aload_n 0, 1) := by decide +kernel
theorem dX0_score_1 : decode cX0_score 1 = .ok (.iload_n 1, 1) := by decide +kernel
theorem dX0_score_2 : decode cX0_score 2 = .ok (.invokevirtual 46, 3) := by decide +kernel
theorem dX0_score_5 : decode cX0_score 5 = .ok (.ifCond .eq 5, 3) := by decide +kernel
theorem dX0_score_8 : decode cX0_score 8 = .ok (.iconst (-1), 1) := by decide +kernel
theorem dX0_score_9 : decode cX0_score 9 = .ok (.ireturn, 1) := by decide +kernel
theorem dX0_score_10 : decode cX0_score 10 = .ok (.aload_n 0, 1) := by decide +kernel
theorem dX0_score_11 : decode cX0_score 11 = .ok (.iload_n 1, 1) := by decide +kernel
theorem dX0_score_12 : decode cX0_score 12 = .ok (.invokevirtual 53, 3) := by decide +kernel
theorem dX0_score_15 : decode cX0_score 15 = .ok (.lstore_n 2, 1) := by decide +kernel
theorem dX0_score_16 : decode cX0_score 16 = .ok (.aload_n 0, 1) := by decide +kernel
theorem dX0_score_17 : decode cX0_score 17 = .ok (.iconst 1, 1) := by decide +kernel
theorem dX0_score_18 : decode cX0_score 18 = .ok (.iload_n 1, 1) := by decide +kernel
theorem dX0_score_19 : decode cX0_score 19 = .ok (.isub, 1) := by decide +kernel
theorem dX0_score_20 : decode cX0_score 20 = .ok (.invokevirtual 53, 3) := by decide +kernel
theorem dX0_score_23 : decode cX0_score 23 = .ok (.lstore 4, 2) := by decide +kernel
theorem dX0_score_25 : decode cX0_score 25 = .ok (.aload_n 0, 1) := by decide +kernel
theorem dX0_score_26 : decode cX0_score 26 = .ok (.invokevirtual 94, 3) := by decide +kernel
theorem dX0_score_29 : decode cX0_score 29 = .ok (.lstore 6, 2) := by decide +kernel
theorem dX0_score_31 : decode cX0_score 31 = .ok (.aload_n 0, 1) := by decide +kernel
theorem dX0_score_32 : decode cX0_score 32 = .ok (.lload 4, 2) := by decide +kernel
theorem dX0_score_34 : decode cX0_score 34 = .ok (.invokevirtual 32, 3) := by decide +kernel
theorem dX0_score_37 : decode cX0_score 37 = .ok (.lload 6, 2) := by decide +kernel
theorem dX0_score_39 : decode cX0_score 39 = .ok (.land, 1) := by decide +kernel
theorem dX0_score_40 : decode cX0_score 40 = .ok (.lstore 8, 2) := by decide +kernel
theorem dX0_score_42 : decode cX0_score 42 = .ok (.aload_n 0, 1) := by decide +kernel
theorem dX0_score_43 : decode cX0_score 43 = .ok (.lload_n 2, 1) := by decide +kernel
theorem dX0_score_44 : decode cX0_score 44 = .ok (.invokevirtual 32, 3) := by decide +kernel
theorem dX0_score_47 : decode cX0_score 47 = .ok (.lload 6, 2) := by decide +kernel
theorem dX0_score_49 : decode cX0_score 49 = .ok (.land, 1) := by decide +kernel
theorem dX0_score_50 : decode cX0_score 50 = .ok (.lstore 10, 2) := by decide +kernel
theorem dX0_score_52 : decode cX0_score 52 = .ok (.aload_n 0, 1) := by decide +kernel
theorem dX0_score_53 : decode cX0_score 53 = .ok (.lload 8, 2) := by decide +kernel
theorem dX0_score_55 : decode cX0_score 55 = .ok (.lload 6, 2) := by decide +kernel
theorem dX0_score_57 : decode cX0_score 57 = .ok (.invokevirtual 42, 3) := by decide +kernel
theorem dX0_score_60 : decode cX0_score 60 = .ok (.lstore 12, 2) := by decide +kernel
theorem dX0_score_62 : decode cX0_score 62 = .ok (.aload_n 0, 1) := by decide +kernel
theorem dX0_score_63 : decode cX0_score 63 = .ok (.lload 10, 2) := by decide +kernel
theorem dX0_score_65 : decode cX0_score 65 = .ok (.lload 6, 2) := by decide +kernel
theorem dX0_score_67 : decode cX0_score 67 = .ok (.invokevirtual 42, 3) := by decide +kernel
theorem dX0_score_70 : decode cX0_score 70 = .ok (.lstore 14, 2) := by decide +kernel
theorem dX0_score_72 : decode cX0_score 72 = .ok (.aload_n 0, 1) := by decide +kernel
theorem dX0_score_73 : decode cX0_score 73 = .ok (.lload_n 2, 1) := by decide +kernel
theorem dX0_score_74 : decode cX0_score 74 = .ok (.lload 14, 2) := by decide +kernel
theorem dX0_score_76 : decode cX0_score 76 = .ok (.lload 12, 2) := by decide +kernel
theorem dX0_score_78 : decode cX0_score 78 = .ok (.ldc2_w 24, 3) := by decide +kernel
theorem dX0_score_81 : decode cX0_score 81 = .ok (.lxor, 1) := by decide +kernel
theorem dX0_score_82 : decode cX0_score 82 = .ok (.land, 1) := by decide +kernel
theorem dX0_score_83 : decode cX0_score 83 = .ok (.lor, 1) := by decide +kernel
theorem dX0_score_84 : decode cX0_score 84 = .ok (.invokevirtual 70, 3) := by decide +kernel
theorem dX0_score_87 : decode cX0_score 87 = .ok (.ireturn, 1) := by decide +kernel
theorem dX0_region_0 : decode cX0_region 0 = .ok (.aload_n 0, 1) := by decide +kernel
theorem dX0_region_1 : decode cX0_region 1 = .ok (.iload_n 1, 1) := by decide +kernel
theorem dX0_region_2 : decode cX0_region 2 = .ok (.invokevirtual 50, 3) := by decide +kernel
theorem dX0_region_5 : decode cX0_region 5 = .ok (.ifCond .eq 5, 3) := by decide +kernel
theorem dX0_region_8 : decode cX0_region 8 = .ok (.iconst (-1), 1) := by decide +kernel
theorem dX0_region_9 : decode cX0_region 9 = .ok (.ireturn, 1) := by decide +kernel
theorem dX0_region_10 : decode cX0_region 10 = .ok (.aload_n 0, 1) := by decide +kernel
theorem dX0_region_11 : decode cX0_region 11 = .ok (.invokevirtual 94, 3) := by decide +kernel
theorem dX0_region_14 : decode cX0_region 14 = .ok (.lstore_n 2, 1) := by decide +kernel
theorem dX0_region_15 : decode cX0_region 15 = .ok (.lconst 1, 1) := by decide +kernel
theorem dX0_region_16 : decode cX0_region 16 = .ok (.iload_n 1, 1) := by decide +kernel
theorem dX0_region_17 : decode cX0_region 17 = .ok (.lshl, 1) := by decide +kernel
theorem dX0_region_18 : decode cX0_region 18 = .ok (.lstore 4, 2) := by decide +kernel
theorem dX0_region_20 : decode cX0_region 20 = .ok (.lload_n 2, 1) := by decide +kernel
theorem dX0_region_21 : decode cX0_region 21 = .ok (.lload 4, 2) := by decide +kernel
theorem dX0_region_23 : decode cX0_region 23 = .ok (.land, 1) := by decide +kernel
theorem dX0_region_24 : decode cX0_region 24 = .ok (.lconst 0, 1) := by decide +kernel
theorem dX0_region_25 : decode cX0_region 25 = .ok (.lcmp, 1) := by decide +kernel
theorem dX0_region_26 : decode cX0_region 26 = .ok (.ifCond .ne 6, 3) := by decide +kernel
theorem dX0_region_29 : decode cX0_region 29 = .ok (.bipush (-2), 2) := by decide +kernel
theorem dX0_region_31 : decode cX0_region 31 = .ok (.ireturn, 1) := by decide +kernel
theorem dX0_region_32 : decode cX0_region 32 = .ok (.aload_n 0, 1) := by decide +kernel
theorem dX0_region_33 : decode cX0_region 33 = .ok (.lload 4, 2) := by decide +kernel
theorem dX0_region_35 : decode cX0_region 35 = .ok (.lload_n 2, 1) := by decide +kernel
theorem dX0_region_36 : decode cX0_region 36 = .ok (.invokevirtual 42, 3) := by decide +kernel
theorem dX0_region_39 : decode cX0_region 39 = .ok (.lstore 6, 2) := by decide +kernel
theorem dX0_region_41 : decode cX0_region 41 = .ok (.aload_n 0, 1) := by decide +kernel
theorem dX0_region_42 : decode cX0_region 42 = .ok (.lload 6, 2) := by decide +kernel
theorem dX0_region_44 : decode cX0_region 44 = .ok (.invokevirtual 70, 3) := by decide +kernel
theorem dX0_region_47 : decode cX0_region 47 = .ok (.ireturn, 1) := by decide +kernel
theorem dX0_done_0 : decode cX0_done 0 = .ok (.aload_n 0, 1) := by decide +kernel
theorem dX0_done_1 : decode cX0_done 1 = .ok (.getfield 66, 3) := by decide +kernel
theorem dX0_done_4 : decode cX0_done 4 = .ok (.ireturn, 1) := by decide +kernel
end
section
set_option maxRecDepth 100000
theorem dX1_init_0 : decode cX1_init 0 = .ok (.aload_n 0, 1) := by decide +kernel
theorem dX1_init_1 : decode cX1_init 1 = .ok (.invokespecial 1, 3) := by decide +kernel
theorem dX1_init_4 : decode cX1_init 4 = .ok (.aload_n 0, 1) := by decide +kernel
theorem dX1_init_5 : decode cX1_init 5 = .ok (.bipush 49, 2) := by decide +kernel
theorem dX1_init_7 : decode cX1_init 7 = .ok (.newarray .int, 2) := by decide +kernel
theorem dX1_init_9 : decode cX1_init 9 = .ok (.putfield 7, 3) := by decide +kernel
theorem dX1_init_12 : decode cX1_init 12 = .ok (.aload_n 0, 1) := by decide +kernel
theorem dX1_init_13 : decode cX1_init 13 = .ok (.sipush 1960, 3) := by decide +kernel
theorem dX1_init_16 : decode cX1_init 16 = .ok (.newarray .int, 2) := by decide +kernel
theorem dX1_init_18 : decode cX1_init 18 = .ok (.putfield 13, 3) := by decide +kernel
theorem dX1_init_21 : decode cX1_init 21 = .ok (.aload_n 0, 1) := by decide +kernel
theorem dX1_init_22 : decode cX1_init 22 = .ok (.bipush 40, 2) := by decide +kernel
theorem dX1_init_24 : decode cX1_init 24 = .ok (.newarray .int, 2) := by decide +kernel
theorem dX1_init_26 : decode cX1_init 26 = .ok (.putfield 16, 3) := by decide +kernel
theorem dX1_init_29 : decode cX1_init 29 = .ok (.aload_n 0, 1) := by decide +kernel
theorem dX1_init_30 : decode cX1_init 30 = .ok (.bipush 40, 2) := by decide +kernel
theorem dX1_init_32 : decode cX1_init 32 = .ok (.newarray .int, 2) := by decide +kernel
theorem dX1_init_34 : decode cX1_init 34 = .ok (.putfield 19, 3) := by decide +kernel
theorem dX1_init_37 : decode cX1_init 37 = .ok (.aload_n 0, 1) := by decide +kernel
theorem dX1_init_38 : decode cX1_init 38 = .ok (.iconst 2, 1) := by decide +kernel
theorem dX1_init_39 : decode cX1_init 39 = .ok (.newarray .int, 2) := by decide +kernel
theorem dX1_init_41 : decode cX1_init 41 = .ok (.putfield 22, 3) := by decide +kernel
theorem dX1_init_44 : decode cX1_init 44 = .ok (.aload_n 0, 1) := by decide +kernel
theorem dX1_init_45 : decode cX1_init 45 = .ok (.bipush 49, 2) := by decide +kernel
theorem dX1_init_47 : decode cX1_init 47 = .ok (.newarray .boolean, 2) := by decide +kernel
theorem dX1_init_49 : decode cX1_init 49 = .ok (.putfield 25, 3) := by decide +kernel
theorem dX1_init_52 : decode cX1_init 52 = .ok (.aload_n 0, 1) := by decide +kernel
theorem dX1_init_53 : decode cX1_init 53 = .ok (.bipush 49, 2) := by decide +kernel
theorem dX1_init_55 : decode cX1_init 55 = .ok (.newarray .int, 2) := by decide +kernel
theorem dX1_init_57 : decode cX1_init 57 = .ok (.putfield 29, 3) := by decide +kernel
theorem dX1_init_60 : decode cX1_init 60 = .ok (.aload_n 0, 1) := by decide +kernel
theorem dX1_init_61 : decode cX1_init 61 = .ok (.bipush 49, 2) := by decide +kernel
theorem dX1_init_63 : decode cX1_init 63 = .ok (.newarray .int, 2) := by decide +kernel
theorem dX1_init_65 : decode cX1_init 65 = .ok (.putfield 32, 3) := by decide +kernel
theorem dX1_init_68 : decode cX1_init 68 = .ok (.iconst 0, 1) := by decide +kernel
theorem dX1_init_69 : decode cX1_init 69 = .ok (.istore_n 1, 1) := by decide +kernel
theorem dX1_init_70 : decode cX1_init 70 = .ok (.iload_n 1, 1) := by decide +kernel
theorem dX1_init_71 : decode cX1_init 71 = .ok (.bipush 49, 2) := by decide +kernel
theorem dX1_init_73 : decode cX1_init 73 = .ok (.if_icmp .ge 16, 3) := by decide +kernel
theorem dX1_init_76 : decode cX1_init 76 = .ok (.aload_n 0, 1) := by decide +kernel
theorem dX1_init_77 : decode cX1_init 77 = .ok (.getfield 7, 3) := by decide +kernel
theorem dX1_init_80 : decode cX1_init 80 = .ok (.iload_n 1, 1) := by decide +kernel
theorem dX1_init_81 : decode cX1_init 81 = .ok (.iconst 2, 1) := by decide +kernel
theorem dX1_init_82 : decode cX1_init 82 = .ok (.iastore, 1) := by decide +kernel
theorem dX1_init_83 : decode cX1_init 83 = .ok (.iinc 1 1, 3) := by decide +kernel
theorem dX1_init_86 : decode cX1_init 86 = .ok (.goto (-16), 3) := by decide +kernel
theorem dX1_init_89 : decode cX1_init 89 = .ok (.return_, 1) := by decide +kernel
theorem dX1_play_0 : decode cX1_play 0 = .ok (.aload_n 0, 1) := by decide +kernel
theorem dX1_play_1 : decode cX1_play 1 = .ok (.iload_n 1, 1) := by decide +kernel
theorem dX1_play_2 : decode cX1_play 2 = .ok (.invokevirtual 62, 3) := by decide +kernel
theorem dX1_play_5 : decode cX1_play 5 = .ok (.ifCond .eq 11, 3) := by decide +kernel
theorem dX1_play_8 : decode cX1_play 8 = .ok (.aload_n 0, 1) := by decide +kernel
theorem dX1_play_9 : decode cX1_play 9 = .ok (.iload_n 2, 1) := by decide +kernel
theorem dX1_play_10 : decode cX1_play 10 = .ok (.invokevirtual 65, 3) := by decide +kernel
theorem dX1_play_13 : decode cX1_play 13 = .ok (.ifCond .ne 5, 3) := by decide +kernel
theorem dX1_play_16 : decode cX1_play 16 = .ok (.iconst (-1), 1) := by decide +kernel
theorem dX1_play_17 : decode cX1_play 17 = .ok (.ireturn, 1) := by decide +kernel
theorem dX1_play_18 : decode cX1_play 18 = .ok (.aload_n 0, 1) := by decide +kernel
theorem dX1_play_19 : decode cX1_play 19 = .ok (.getfield 7, 3) := by decide +kernel
theorem dX1_play_22 : decode cX1_play 22 = .ok (.iload_n 2, 1) := by decide +kernel
theorem dX1_play_23 : decode cX1_play 23 = .ok (.iaload, 1) := by decide +kernel
theorem dX1_play_24 : decode cX1_play 24 = .ok (.iconst 2, 1) := by decide +kernel
theorem dX1_play_25 : decode cX1_play 25 = .ok (.if_icmp .eq 6, 3) := by decide +kernel
theorem dX1_play_28 : decode cX1_play 28 = .ok (.bipush (-2), 2) := by decide +kernel
theorem dX1_play_30 : decode cX1_play 30 = .ok (.ireturn, 1) := by decide +kernel
theorem dX1_play_31 : decode cX1_play 31 = .ok (.aload_n 0, 1) := by decide +kernel
theorem dX1_play_32 : decode cX1_play 32 = .ok (.getfield 54, 3) := by decide +kernel
theorem dX1_play_35 : decode cX1_play 35 = .ok (.bipush 40, 2) := by decide +kernel
theorem dX1_play_37 : decode cX1_play 37 = .ok (.if_icmp .ne 6, 3) := by decide +kernel
theorem dX1_play_40 : decode cX1_play 40 = .ok (.bipush (-3), 2) := by decide +kernel
theorem dX1_play_42 : decode cX1_play 42 = .ok (.ireturn, 1) := by decide +kernel
theorem dX1_play_43 : decode cX1_play 43 = .ok (.aload_n 0, 1) := by decide +kernel
theorem dX1_play_44 : decode cX1_play 44 = .ok (.iload_n 1, 1) := by decide +kernel
theorem dX1_play_45 : decode cX1_play 45 = .ok (.iload_n 2, 1) := by decide +kernel
theorem dX1_play_46 : decode cX1_play 46 = .ok (.invokevirtual 68, 3) := by decide +kernel
theorem dX1_play_49 : decode cX1_play 49 = .ok (.istore_n 3, 1) := by decide +kernel
theorem dX1_play_50 : decode cX1_play 50 = .ok (.iload_n 3, 1) := by decide +kernel
theorem dX1_play_51 : decode cX1_play 51 = .ok (.ifCond .ge 9, 3) := by decide +kernel
theorem dX1_play_54 : decode cX1_play 54 = .ok (.aload_n 0, 1) := by decide +kernel
theorem dX1_play_55 : decode cX1_play 55 = .ok (.invokevirtual 71, 3) := by decide +kernel
theorem dX1_play_58 : decode cX1_play 58 = .ok (.iload_n 3, 1) := by decide +kernel
theorem dX1_play_59 : decode cX1_play 59 = .ok (.ireturn, 1) := by decide +kernel
theorem dX1_play_60 : decode cX1_play 60 = .ok (.aload_n 0, 1) := by decide +kernel
theorem dX1_play_61 : decode cX1_play 61 = .ok (.invokevirtual 74, 3) := by decide +kernel
theorem dX1_play_64 : decode cX1_play 64 = .ok (.aload_n 0, 1) := by decide +kernel
theorem dX1_play_65 : decode cX1_play 65 = .ok (.getfield 22, 3) := by decide +kernel
theorem dX1_play_68 : decode cX1_play 68 = .ok (.iload_n 1, 1) := by decide +kernel
theorem dX1_play_69 : decode cX1_play 69 = .ok (.aload_n 0, 1) := by decide +kernel
theorem dX1_play_70 : decode cX1_play 70 = .ok (.getfield 22, 3) := by decide +kernel
theorem dX1_play_73 : decode cX1_play 73 = .ok (.iload_n 1, 1) := by decide +kernel
theorem dX1_play_74 : decode cX1_play 74 = .ok (.iaload, 1) := by decide +kernel
theorem dX1_play_75 : decode cX1_play 75 = .ok (.iload_n 3, 1) := by decide +kernel
theorem dX1_play_76 : decode cX1_play 76 = .ok (.iadd, 1) := by decide +kernel
theorem dX1_play_77 : decode cX1_play 77 = .ok (.iastore, 1) := by decide +kernel
theorem dX1_play_78 : decode cX1_play 78 = .ok (.iload_n 3, 1) := by decide +kernel
theorem dX1_play_79 : decode cX1_play 79 = .ok (.ireturn, 1) := by decide +kernel
theorem dX1_isPlayer_0 : decode cX1_isPlayer 0 = .ok (.iload_n 1, 1) := by decide +kernel
theorem dX1_isPlayer_1 : decode cX1_isPlayer 1 = .ok (.ifCond .eq 8, 3) := by decide +kernel
theorem dX1_isPlayer_4 : decode cX1_isPlayer 4 = .ok (.iload_n 1, 1) := by decide +kernel
theorem dX1_isPlayer_5 : decode cX1_isPlayer 5 = .ok (.iconst 1, 1) := by decide +kernel
theorem dX1_isPlayer_6 : decode cX1_isPlayer 6 = .ok (.if_icmp .ne 7, 3) := by decide +kernel
theorem dX1_isPlayer_9 : decode cX1_isPlayer 9 = .ok (.iconst 1, 1) := by decide +kernel
theorem dX1_isPlayer_10 : decode cX1_isPlayer 10 = .ok (.goto 4, 3) := by decide +kernel
theorem dX1_isPlayer_13 : decode cX1_isPlayer 13 = .ok (.iconst 0, 1) := by decide +kernel
theorem dX1_isPlayer_14 : decode cX1_isPlayer 14 = .ok (.ireturn, 1) := by decide +kernel
theorem dX1_isPoint_0 : decode cX1_isPoint 0 = .ok (.iload_n 1, 1) := by decide +kernel
theorem dX1_isPoint_1 : decode cX1_isPoint 1 = .ok (.ifCond .lt 13, 3) := by decide +kernel
theorem dX1_isPoint_4 : decode cX1_isPoint 4 = .ok (.iload_n 1, 1) := by decide +kernel
theorem dX1_isPoint_5 : decode cX1_isPoint 5 = .ok (.bipush 48, 2) := by decide +kernel
theorem dX1_isPoint_7 : decode cX1_isPoint 7 = .ok (.if_icmp .gt 7, 3) := by decide +kernel
theorem dX1_isPoint_10 : decode cX1_isPoint 10 = .ok (.iconst 1, 1) := by decide +kernel
theorem dX1_isPoint_11 : decode cX1_isPoint 11 = .ok (.goto 4, 3) := by decide +kernel
theorem dX1_isPoint_14 : decode cX1_isPoint 14 = .ok (.iconst 0, 1) := by decide +kernel
theorem dX1_isPoint_15 : decode cX1_isPoint 15 = .ok (.ireturn, 1) := by decide +kernel
theorem dX1_tryMove_0 : decode cX1_tryMove 0 = .ok (.iconst 0, 1) := by decide +kernel
theorem dX1_tryMove_1 : decode cX1_tryMove 1 = .ok (.istore_n 3, 1) := by decide +kernel
theorem dX1_tryMove_2 : decode cX1_tryMove 2 = .ok (.iload_n 3, 1) := by decide +kernel
theorem dX1_tryMove_3 : decode cX1_tryMove 3 = .ok (.bipush 49, 2) := by decide +kernel
theorem dX1_tryMove_5 : decode cX1_tryMove 5 = .ok (.if_icmp .ge 21, 3) := by decide +kernel
theorem dX1_tryMove_8 : decode cX1_tryMove 8 = .ok (.aload_n 0, 1) := by decide +kernel
theorem dX1_tryMove_9 : decode cX1_tryMove 9 = .ok (.getfield 32, 3) := by decide +kernel
theorem dX1_tryMove_12 : decode cX1_tryMove 12 = .ok (.iload_n 3, 1) := by decide +kernel
theorem dX1_tryMove_13 : decode cX1_tryMove 13 = .ok (.aload_n 0, 1) := by decide +kernel
theorem dX1_tryMove_14 : decode cX1_tryMove 14 = .ok (.getfield 7, 3) := by decide +kernel
theorem dX1_tryMove_17 : decode cX1_tryMove 17 = .ok (.iload_n 3, 1) := by decide +kernel
theorem dX1_tryMove_18 : decode cX1_tryMove 18 = .ok (.iaload, 1) := by decide +kernel
theorem dX1_tryMove_19 : decode cX1_tryMove 19 = .ok (.iastore, 1) := by decide +kernel
theorem dX1_tryMove_20 : decode cX1_tryMove 20 = .ok (.iinc 3 1, 3) := by decide +kernel
theorem dX1_tryMove_23 : decode cX1_tryMove 23 = .ok (.goto (-21), 3) := by decide +kernel
theorem dX1_tryMove_26 : decode cX1_tryMove 26 = .ok (.aload_n 0, 1) := by decide +kernel
theorem dX1_tryMove_27 : decode cX1_tryMove 27 = .ok (.iload_n 1, 1) := by decide +kernel
theorem dX1_tryMove_28 : decode cX1_tryMove 28 = .ok (.iload_n 2, 1) := by decide +kernel
theorem dX1_tryMove_29 : decode cX1_tryMove 29 = .ok (.invokevirtual 51, 3) := by decide +kernel
theorem dX1_tryMove_32 : decode cX1_tryMove 32 = .ok (.istore_n 3, 1) := by decide +kernel
theorem dX1_tryMove_33 : decode cX1_tryMove 33 = .ok (.aload_n 0, 1) := by decide +kernel
theorem dX1_tryMove_34 : decode cX1_tryMove 34 = .ok (.iload_n 2, 1) := by decide +kernel
theorem dX1_tryMove_35 : decode cX1_tryMove 35 = .ok (.invokevirtual 43, 3) := by decide +kernel
theorem dX1_tryMove_38 : decode cX1_tryMove 38 = .ok (.pop, 1) := by decide +kernel
theorem dX1_tryMove_39 : decode cX1_tryMove 39 = .ok (.aload_n 0, 1) := by decide +kernel
theorem dX1_tryMove_40 : decode cX1_tryMove 40 = .ok (.invokevirtual 47, 3) := by decide +kernel
theorem dX1_tryMove_43 : decode cX1_tryMove 43 = .ok (.ifCond .ne 6, 3) := by decide +kernel
theorem dX1_tryMove_46 : decode cX1_tryMove 46 = .ok (.bipush (-5), 2) := by decide +kernel
theorem dX1_tryMove_48 : decode cX1_tryMove 48 = .ok (.ireturn, 1) := by decide +kernel
theorem dX1_tryMove_49 : decode cX1_tryMove 49 = .ok (.aload_n 0, 1) := by decide +kernel
theorem dX1_tryMove_50 : decode cX1_tryMove 50 = .ok (.getfield 54, 3) := by decide +kernel
theorem dX1_tryMove_53 : decode cX1_tryMove 53 = .ok (.ifCond .le 21, 3) := by decide +kernel
theorem dX1_tryMove_56 : decode cX1_tryMove 56 = .ok (.aload_n 0, 1) := by decide +kernel
theorem dX1_tryMove_57 : decode cX1_tryMove 57 = .ok (.aload_n 0, 1) := by decide +kernel
theorem dX1_tryMove_58 : decode cX1_tryMove 58 = .ok (.getfield 54, 3) := by decide +kernel
theorem dX1_tryMove_61 : decode cX1_tryMove 61 = .ok (.iconst 1, 1) := by decide +kernel
theorem dX1_tryMove_62 : decode cX1_tryMove 62 = .ok (.isub, 1) := by decide +kernel
theorem dX1_tryMove_63 : decode cX1_tryMove 63 = .ok (.invokevirtual 58, 3) := by decide +kernel
theorem dX1_tryMove_66 : decode cX1_tryMove 66 = .ok (.ifCond .eq 8, 3) := by decide +kernel
theorem dX1_tryMove_69 : decode cX1_tryMove 69 = .ok (.bipush (-6), 2) := by decide +kernel
theorem dX1_tryMove_71 : decode cX1_tryMove 71 = .ok (.goto 4, 3) := by decide +kernel
theorem dX1_tryMove_74 : decode cX1_tryMove 74 = .ok (.iload_n 3, 1) := by decide +kernel
theorem dX1_tryMove_75 : decode cX1_tryMove 75 = .ok (.ireturn, 1) := by decide +kernel
theorem dX1_putAndCapture_0 : decode cX1_putAndCapture 0 = .ok (.aload_n 0, 1) := by decide +kernel
theorem dX1_putAndCapture_1 : decode cX1_putAndCapture 1 = .ok (.getfield 7, 3) := by decide +kernel
theorem dX1_putAndCapture_4 : decode cX1_putAndCapture 4 = .ok (.iload_n 2, 1) := by decide +kernel
theorem dX1_putAndCapture_5 : decode cX1_putAndCapture 5 = .ok (.iload_n 1, 1) := by decide +kernel
theorem dX1_putAndCapture_6 : decode cX1_putAndCapture 6 = .ok (.iastore, 1) := by decide +kernel
theorem dX1_putAndCapture_7 : decode cX1_putAndCapture 7 = .ok (.iconst 0, 1) := by decide +kernel
theorem dX1_putAndCapture_8 : decode cX1_putAndCapture 8 = .ok (.istore_n 3, 1) := by decide +kernel
theorem dX1_putAndCapture_9 : decode cX1_putAndCapture 9 = .ok (.iload_n 3, 1) := by decide +kernel
theorem dX1_putAndCapture_10 : decode cX1_putAndCapture 10 = .ok (.bipush 49, 2) := by decide +kernel
theorem dX1_putAndCapture_12 : decode cX1_putAndCapture 12 = .ok (.if_icmp .ge 16, 3) := by decide +kernel
theorem dX1_putAndCapture_15 : decode cX1_putAndCapture 15 = .ok (.aload_n 0, 1) := by decide +kernel
theorem dX1_putAndCapture_16 : decode cX1_putAndCapture 16 = .ok (.getfield 29, 3) := by decide +kernel
theorem dX1_putAndCapture_19 : decode cX1_putAndCapture 19 = .ok (.iload_n 3, 1) := by decide +kernel
theorem dX1_putAndCapture_20 : decode cX1_putAndCapture 20 = .ok (.iconst 0, 1) := by decide +kernel
theorem dX1_putAndCapture_21 : decode cX1_putAndCapture 21 = .ok (.iastore, 1) := by decide +kernel
theorem dX1_putAndCapture_22 : decode cX1_putAndCapture 22 = .ok (.iinc 3 1, 3) := by decide +kernel
theorem dX1_putAndCapture_25 : decode cX1_putAndCapture 25 = .ok (.goto (-16), 3) := by decide +kernel
theorem dX1_putAndCapture_28 : decode cX1_putAndCapture 28 = .ok (.iconst 0, 1) := by decide +kernel
theorem dX1_putAndCapture_29 : decode cX1_putAndCapture 29 = .ok (.istore_n 3, 1) := by decide +kernel
theorem dX1_putAndCapture_30 : decode cX1_putAndCapture 30 = .ok (.iload_n 3, 1) := by decide +kernel
theorem dX1_putAndCapture_31 : decode cX1_putAndCapture 31 = .ok (.bipush 49, 2) := by decide +kernel
theorem dX1_putAndCapture_33 : decode cX1_putAndCapture 33 = .ok (.if_icmp .ge 45, 3) := by decide +kernel
theorem dX1_putAndCapture_36 : decode cX1_putAndCapture 36 = .ok (.aload_n 0, 1) := by decide +kernel
theorem dX1_putAndCapture_37 : decode cX1_putAndCapture 37 = .ok (.getfield 7, 3) := by decide +kernel
theorem dX1_putAndCapture_40 : decode cX1_putAndCapture 40 = .ok (.iload_n 3, 1) := by decide +kernel
theorem dX1_putAndCapture_41 : decode cX1_putAndCapture 41 = .ok (.iaload, 1) := by decide +kernel
theorem dX1_putAndCapture_42 : decode cX1_putAndCapture 42 = .ok (.iconst 1, 1) := by decide +kernel
theorem dX1_putAndCapture_43 : decode cX1_putAndCapture 43 = .ok (.iload_n 1, 1) := by decide +kernel
theorem dX1_putAndCapture_44 : decode cX1_putAndCapture 44 = .ok (.isub, 1) := by decide +kernel
theorem dX1_putAndCapture_45 : decode cX1_putAndCapture 45 = .ok (.if_icmp .ne 27, 3) := by decide +kernel
theorem dX1_putAndCapture_48 : decode cX1_putAndCapture 48 = .ok (.aload_n 0, 1) := by decide +kernel
theorem dX1_putAndCapture_49 : decode cX1_putAndCapture 49 = .ok (.iload_n 3, 1) := by decide +kernel
theorem dX1_putAndCapture_50 : decode cX1_putAndCapture 50 = .ok (.invokevirtual 43, 3) := by decide +kernel
theorem dX1_putAndCapture_53 : decode cX1_putAndCapture 53 = .ok (.pop, 1) := by decide +kernel
theorem dX1_putAndCapture_54 : decode cX1_putAndCapture 54 = .ok (.aload_n 0, 1) := by decide +kernel
theorem dX1_putAndCapture_55 : decode cX1_putAndCapture 55 = .ok (.getfield 29, 3) := by decide +kernel
theorem dX1_putAndCapture_58 : decode cX1_putAndCapture 58 = .ok (.iload_n 3, 1) := by decide +kernel
theorem dX1_putAndCapture_59 : decode cX1_putAndCapture 59 = .ok (.aload_n 0, 1) := by decide +kernel
theorem dX1_putAndCapture_60 : decode cX1_putAndCapture 60 = .ok (.invokevirtual 47, 3) := by decide +kernel
theorem dX1_putAndCapture_63 : decode cX1_putAndCapture 63 = .ok (.ifCond .ne 7, 3) := by decide +kernel
theorem dX1_putAndCapture_66 : decode cX1_putAndCapture 66 = .ok (.iconst 1, 1) := by decide +kernel
theorem dX1_putAndCapture_67 : decode cX1_putAndCapture 67 = .ok (.goto 4, 3) := by decide +kernel
theorem dX1_putAndCapture_70 : decode cX1_putAndCapture 70 = .ok (.iconst 0, 1) := by decide +kernel
theorem dX1_putAndCapture_71 : decode cX1_putAndCapture 71 = .ok (.iastore, 1) := by decide +kernel
theorem dX1_putAndCapture_72 : decode cX1_putAndCapture 72 = .ok (.iinc 3 1, 3) := by decide +kernel
theorem dX1_putAndCapture_75 : decode cX1_putAndCapture 75 = .ok (.goto (-45), 3) := by decide +kernel
theorem dX1_putAndCapture_78 : decode cX1_putAndCapture 78 = .ok (.iconst 0, 1) := by decide +kernel
theorem dX1_putAndCapture_79 : decode cX1_putAndCapture 79 = .ok (.istore_n 3, 1) := by decide +kernel
theorem dX1_putAndCapture_80 : decode cX1_putAndCapture 80 = .ok (.iconst 0, 1) := by decide +kernel
theorem dX1_putAndCapture_81 : decode cX1_putAndCapture 81 = .ok (.istore 4, 2) := by decide +kernel
theorem dX1_putAndCapture_83 : decode cX1_putAndCapture 83 = .ok (.iload 4, 2) := by decide +kernel
theorem dX1_putAndCapture_85 : decode cX1_putAndCapture 85 = .ok (.bipush 49, 2) := by decide +kernel
theorem dX1_putAndCapture_87 : decode cX1_putAndCapture 87 = .ok (.if_icmp .ge 31, 3) := by decide +kernel
theorem dX1_putAndCapture_90 : decode cX1_putAndCapture 90 = .ok (.aload_n 0, 1) := by decide +kernel
theorem dX1_putAndCapture_91 : decode cX1_putAndCapture 91 = .ok (.getfield 29, 3) := by decide +kernel
theorem dX1_putAndCapture_94 : decode cX1_putAndCapture 94 = .ok (.iload 4, 2) := by decide +kernel
theorem dX1_putAndCapture_96 : decode cX1_putAndCapture 96 = .ok (.iaload, 1) := by decide +kernel
theorem dX1_putAndCapture_97 : decode cX1_putAndCapture 97 = .ok (.iconst 1, 1) := by decide +kernel
theorem dX1_putAndCapture_98 : decode cX1_putAndCapture 98 = .ok (.if_icmp .ne 14, 3) := by decide +kernel
theorem dX1_putAndCapture_101 : decode cX1_putAndCapture 101 = .ok (.aload_n 0, 1) := by decide +kernel
theorem dX1_putAndCapture_102 : decode cX1_putAndCapture 102 = .ok (.getfield 7, 3) := by decide +kernel
theorem dX1_putAndCapture_105 : decode cX1_putAndCapture 105 = .ok (.iload 4, 2) := by decide +kernel
theorem dX1_putAndCapture_107 : decode cX1_putAndCapture 107 = .ok (.iconst 2, 1) := by decide +kernel
theorem dX1_putAndCapture_108 : decode cX1_putAndCapture 108 = .ok (.iastore, 1) := by decide +kernel
theorem dX1_putAndCapture_109 : decode cX1_putAndCapture 109 = .ok (.iinc 3 1, 3) := by decide +kernel
theorem dX1_putAndCapture_112 : decode cX1_putAndCapture 112 = .ok (.iinc 4 1, 3) := by decide +kernel
theorem dX1_putAndCapture_115 : decode cX1_putAndCapture 115 = .ok (.goto (-32), 3) := by decide +kernel
theorem dX1_putAndCapture_118 : decode cX1_putAndCapture 118 = .ok (.iload_n 3, 1) := by decide +kernel
theorem dX1_putAndCapture_119 : decode cX1_putAndCapture 119 = .ok (.ireturn, 1) := by decide +kernel
theorem dX1_reachFrom_0 : decode cX1_reachFrom 0 = .ok (.iconst 0, 1) := by decide +kernel
theorem dX1_reachFrom_1 : decode cX1_reachFrom 1 = .ok (.istore_n 2, 1) := by decide +kernel
theorem dX1_reachFrom_2 : decode cX1_reachFrom 2 = .ok (.iload_n 2, 1) := by decide +kernel
theorem dX1_reachFrom_3 : decode cX1_reachFrom 3 = .ok (.bipush 49, 2) := by decide +kernel
theorem dX1_reachFrom_5 : decode cX1_reachFrom 5 = .ok (.if_icmp .ge 25, 3) := by decide +kernel
theorem dX1_reachFrom_8 : decode cX1_reachFrom 8 = .ok (.aload_n 0, 1) := by decide +kernel
theorem dX1_reachFrom_9 : decode cX1_reachFrom 9 = .ok (.getfield 25, 3) := by decide +kernel
theorem dX1_reachFrom_12 : decode cX1_reachFrom 12 = .ok (.iload_n 2, 1) := by decide +kernel
theorem dX1_reachFrom_13 : decode cX1_reachFrom 13 = .ok (.iload_n 2, 1) := by decide +kernel
theorem dX1_reachFrom_14 : decode cX1_reachFrom 14 = .ok (.iload_n 1, 1) := by decide +kernel
theorem dX1_reachFrom_15 : decode cX1_reachFrom 15 = .ok (.if_icmp .ne 7, 3) := by decide +kernel
theorem dX1_reachFrom_18 : decode cX1_reachFrom 18 = .ok (.iconst 1, 1) := by decide +kernel
theorem dX1_reachFrom_19 : decode cX1_reachFrom 19 = .ok (.goto 4, 3) := by decide +kernel
theorem dX1_reachFrom_22 : decode cX1_reachFrom 22 = .ok (.iconst 0, 1) := by decide +kernel
theorem dX1_reachFrom_23 : decode cX1_reachFrom 23 = .ok (.bastore, 1) := by decide +kernel
theorem dX1_reachFrom_24 : decode cX1_reachFrom 24 = .ok (.iinc 2 1, 3) := by decide +kernel
theorem dX1_reachFrom_27 : decode cX1_reachFrom 27 = .ok (.goto (-25), 3) := by decide +kernel
theorem dX1_reachFrom_30 : decode cX1_reachFrom 30 = .ok (.iconst 1, 1) := by decide +kernel
theorem dX1_reachFrom_31 : decode cX1_reachFrom 31 = .ok (.istore_n 2, 1) := by decide +kernel
theorem dX1_reachFrom_32 : decode cX1_reachFrom 32 = .ok (.iconst 0, 1) := by decide +kernel
theorem dX1_reachFrom_33 : decode cX1_reachFrom 33 = .ok (.istore_n 3, 1) := by decide +kernel
theorem dX1_reachFrom_34 : decode cX1_reachFrom 34 = .ok (.iload_n 2, 1) := by decide +kernel
theorem dX1_reachFrom_35 : decode cX1_reachFrom 35 = .ok (.iload_n 3, 1) := by decide +kernel
theorem dX1_reachFrom_36 : decode cX1_reachFrom 36 = .ok (.if_icmp .le 77, 3) := by decide +kernel
theorem dX1_reachFrom_39 : decode cX1_reachFrom 39 = .ok (.iload_n 2, 1) := by decide +kernel
theorem dX1_reachFrom_40 : decode cX1_reachFrom 40 = .ok (.istore_n 3, 1) := by decide +kernel
theorem dX1_reachFrom_41 : decode cX1_reachFrom 41 = .ok (.iconst 0, 1) := by decide +kernel
theorem dX1_reachFrom_42 : decode cX1_reachFrom 42 = .ok (.istore 4, 2) := by decide +kernel
theorem dX1_reachFrom_44 : decode cX1_reachFrom 44 = .ok (.iload 4, 2) := by decide +kernel
theorem dX1_reachFrom_46 : decode cX1_reachFrom 46 = .ok (.bipush 49, 2) := by decide +kernel
theorem dX1_reachFrom_48 : decode cX1_reachFrom 48 = .ok (.if_icmp .ge 62, 3) := by decide +kernel
theorem dX1_reachFrom_51 : decode cX1_reachFrom 51 = .ok (.aload_n 0, 1) := by decide +kernel
theorem dX1_reachFrom_52 : decode cX1_reachFrom 52 = .ok (.getfield 25, 3) := by decide +kernel
theorem dX1_reachFrom_55 : decode cX1_reachFrom 55 = .ok (.iload 4, 2) := by decide +kernel
theorem dX1_reachFrom_57 : decode cX1_reachFrom 57 = .ok (.baload, 1) := by decide +kernel
theorem dX1_reachFrom_58 : decode cX1_reachFrom 58 = .ok (.ifCond .ne 46, 3) := by decide +kernel
theorem dX1_reachFrom_61 : decode cX1_reachFrom 61 = .ok (.aload_n 0, 1) := by decide +kernel
theorem dX1_reachFrom_62 : decode cX1_reachFrom 62 = .ok (.getfield 7, 3) := by decide +kernel
theorem dX1_reachFrom_65 : decode cX1_reachFrom 65 = .ok (.iload 4, 2) := by decide +kernel
theorem dX1_reachFrom_67 : decode cX1_reachFrom 67 = .ok (.iaload, 1) := by decide +kernel
theorem dX1_reachFrom_68 : decode cX1_reachFrom 68 = .ok (.aload_n 0, 1) := by decide +kernel
theorem dX1_reachFrom_69 : decode cX1_reachFrom 69 = .ok (.getfield 7, 3) := by decide +kernel
theorem dX1_reachFrom_72 : decode cX1_reachFrom 72 = .ok (.iload_n 1, 1) := by decide +kernel
theorem dX1_reachFrom_73 : decode cX1_reachFrom 73 = .ok (.iaload, 1) := by decide +kernel
theorem dX1_reachFrom_74 : decode cX1_reachFrom 74 = .ok (.if_icmp .ne 30, 3) := by decide +kernel
theorem dX1_reachFrom_77 : decode cX1_reachFrom 77 = .ok (.aload_n 0, 1) := by decide +kernel
theorem dX1_reachFrom_78 : decode cX1_reachFrom 78 = .ok (.iload 4, 2) := by decide +kernel
theorem dX1_reachFrom_80 : decode cX1_reachFrom 80 = .ok (.aload_n 0, 1) := by decide +kernel
theorem dX1_reachFrom_81 : decode cX1_reachFrom 81 = .ok (.getfield 7, 3) := by decide +kernel
theorem dX1_reachFrom_84 : decode cX1_reachFrom 84 = .ok (.iload_n 1, 1) := by decide +kernel
theorem dX1_reachFrom_85 : decode cX1_reachFrom 85 = .ok (.iaload, 1) := by decide +kernel
theorem dX1_reachFrom_86 : decode cX1_reachFrom 86 = .ok (.iconst 1, 1) := by decide +kernel
theorem dX1_reachFrom_87 : decode cX1_reachFrom 87 = .ok (.invokevirtual 39, 3) := by decide +kernel
theorem dX1_reachFrom_90 : decode cX1_reachFrom 90 = .ok (.ifCond .eq 14, 3) := by decide +kernel
theorem dX1_reachFrom_93 : decode cX1_reachFrom 93 = .ok (.aload_n 0, 1) := by decide +kernel
theorem dX1_reachFrom_94 : decode cX1_reachFrom 94 = .ok (.getfield 25, 3) := by decide +kernel
theorem dX1_reachFrom_97 : decode cX1_reachFrom 97 = .ok (.iload 4, 2) := by decide +kernel
theorem dX1_reachFrom_99 : decode cX1_reachFrom 99 = .ok (.iconst 1, 1) := by decide +kernel
theorem dX1_reachFrom_100 : decode cX1_reachFrom 100 = .ok (.bastore, 1) := by decide +kernel
theorem dX1_reachFrom_101 : decode cX1_reachFrom 101 = .ok (.iinc 2 1, 3) := by decide +kernel
theorem dX1_reachFrom_104 : decode cX1_reachFrom 104 = .ok (.iinc 4 1, 3) := by decide +kernel
theorem dX1_reachFrom_107 : decode cX1_reachFrom 107 = .ok (.goto (-63), 3) := by decide +kernel
theorem dX1_reachFrom_110 : decode cX1_reachFrom 110 = .ok (.goto (-76), 3) := by decide +kernel
theorem dX1_reachFrom_113 : decode cX1_reachFrom 113 = .ok (.iload_n 2, 1) := by decide +kernel
theorem dX1_reachFrom_114 : decode cX1_reachFrom 114 = .ok (.ireturn, 1) := by decide +kernel
theorem dX1_besides_0 : decode cX1_besides 0 = .ok (.iconst 0, 1) := by decide +kernel
theorem dX1_besides_1 : decode cX1_besides 1 = .ok (.istore 4, 2) := by decide +kernel
theorem dX1_besides_3 : decode cX1_besides 3 = .ok (.iload 4, 2) := by decide +kernel
theorem dX1_besides_5 : decode cX1_besides 5 = .ok (.iconst 4, 1) := by decide +kernel
theorem dX1_besides_6 : decode cX1_besides 6 = .ok (.if_icmp .ge 50, 3) := by decide +kernel
theorem dX1_besides_9 : decode cX1_besides 9 = .ok (.aload_n 0, 1) := by decide +kernel
theorem dX1_besides_10 : decode cX1_besides 10 = .ok (.iload_n 1, 1) := by decide +kernel
theorem dX1_besides_11 : decode cX1_besides 11 = .ok (.iload 4, 2) := by decide +kernel
theorem dX1_besides_13 : decode cX1_besides 13 = .ok (.invokevirtual 35, 3) := by decide +kernel
theorem dX1_besides_16 : decode cX1_besides 16 = .ok (.istore 5, 2) := by decide +kernel
theorem dX1_besides_18 : decode cX1_besides 18 = .ok (.iload 5, 2) := by decide +kernel
theorem dX1_besides_20 : decode cX1_besides 20 = .ok (.ifCond .lt 30, 3) := by decide +kernel
theorem dX1_besides_23 : decode cX1_besides 23 = .ok (.aload_n 0, 1) := by decide +kernel
theorem dX1_besides_24 : decode cX1_besides 24 = .ok (.getfield 7, 3) := by decide +kernel
theorem dX1_besides_27 : decode cX1_besides 27 = .ok (.iload 5, 2) := by decide +kernel
theorem dX1_besides_29 : decode cX1_besides 29 = .ok (.iaload, 1) := by decide +kernel
theorem dX1_besides_30 : decode cX1_besides 30 = .ok (.iload_n 2, 1) := by decide +kernel
theorem dX1_besides_31 : decode cX1_besides 31 = .ok (.if_icmp .ne 19, 3) := by decide +kernel
theorem dX1_besides_34 : decode cX1_besides 34 = .ok (.iload_n 3, 1) := by decide +kernel
theorem dX1_besides_35 : decode cX1_besides 35 = .ok (.ifCond .eq 13, 3) := by decide +kernel
theorem dX1_besides_38 : decode cX1_besides 38 = .ok (.aload_n 0, 1) := by decide +kernel
theorem dX1_besides_39 : decode cX1_besides 39 = .ok (.getfield 25, 3) := by decide +kernel
theorem dX1_besides_42 : decode cX1_besides 42 = .ok (.iload 5, 2) := by decide +kernel
theorem dX1_besides_44 : decode cX1_besides 44 = .ok (.baload, 1) := by decide +kernel
theorem dX1_besides_45 : decode cX1_besides 45 = .ok (.ifCond .eq 5, 3) := by decide +kernel
theorem dX1_besides_48 : decode cX1_besides 48 = .ok (.iconst 1, 1) := by decide +kernel
theorem dX1_besides_49 : decode cX1_besides 49 = .ok (.ireturn, 1) := by decide +kernel
theorem dX1_besides_50 : decode cX1_besides 50 = .ok (.iinc 4 1, 3) := by decide +kernel
theorem dX1_besides_53 : decode cX1_besides 53 = .ok (.goto (-50), 3) := by decide +kernel
theorem dX1_besides_56 : decode cX1_besides 56 = .ok (.iconst 0, 1) := by decide +kernel
theorem dX1_besides_57 : decode cX1_besides 57 = .ok (.ireturn, 1) := by decide +kernel
theorem dX1_neighbour_0 : decode cX1_neighbour 0 = .ok (.iload_n 2, 1) := by decide +kernel
theorem dX1_neighbour_1 : decode cX1_neighbour 1 = .ok (.ifCond .ne 18, 3) := by decide +kernel
theorem dX1_neighbour_4 : decode cX1_neighbour 4 = .ok (.iload_n 1, 1) := by decide +kernel
theorem dX1_neighbour_5 : decode cX1_neighbour 5 = .ok (.bipush 7, 2) := by decide +kernel
theorem dX1_neighbour_7 : decode cX1_neighbour 7 = .ok (.if_icmp .ge 7, 3) := by decide +kernel
theorem dX1_neighbour_10 : decode cX1_neighbour 10 = .ok (.iconst (-1), 1) := by decide +kernel
theorem dX1_neighbour_11 : decode cX1_neighbour 11 = .ok (.goto 7, 3) := by decide +kernel
theorem dX1_neighbour_14 : decode cX1_neighbour 14 = .ok (.iload_n 1, 1) := by decide +kernel
theorem dX1_neighbour_15 : decode cX1_neighbour 15 = .ok (.bipush 7, 2) := by decide +kernel
theorem dX1_neighbour_17 : decode cX1_neighbour 17 = .ok (.isub, 1) := by decide +kernel
theorem dX1_neighbour_18 : decode cX1_neighbour 18 = .ok (.ireturn, 1) := by decide +kernel
theorem dX1_neighbour_19 : decode cX1_neighbour 19 = .ok (.iload_n 2, 1) := by decide +kernel
theorem dX1_neighbour_20 : decode cX1_neighbour 20 = .ok (.iconst 1, 1) := by decide +kernel
theorem dX1_neighbour_21 : decode cX1_neighbour 21 = .ok (.if_icmp .ne 18, 3) := by decide +kernel
theorem dX1_neighbour_24 : decode cX1_neighbour 24 = .ok (.iload_n 1, 1) := by decide +kernel
theorem dX1_neighbour_25 : decode cX1_neighbour 25 = .ok (.bipush 41, 2) := by decide +kernel
theorem dX1_neighbour_27 : decode cX1_neighbour 27 = .ok (.if_icmp .le 7, 3) := by decide +kernel
theorem dX1_neighbour_30 : decode cX1_neighbour 30 = .ok (.iconst (-1), 1) := by decide +kernel
theorem dX1_neighbour_31 : decode cX1_neighbour 31 = .ok (.goto 7, 3) := by decide +kernel
theorem dX1_neighbour_34 : decode cX1_neighbour 34 = .ok (.iload_n 1, 1) := by decide +kernel
theorem dX1_neighbour_35 : decode cX1_neighbour 35 = .ok (.bipush 7, 2) := by decide +kernel
theorem dX1_neighbour_37 : decode cX1_neighbour 37 = .ok (.iadd, 1) := by decide +kernel
theorem dX1_neighbour_38 : decode cX1_neighbour 38 = .ok (.ireturn, 1) := by decide +kernel
theorem dX1_neighbour_39 : decode cX1_neighbour 39 = .ok (.iload_n 2, 1) := by decide +kernel
theorem dX1_neighbour_40 : decode cX1_neighbour 40 = .ok (.iconst 2, 1) := by decide +kernel
theorem dX1_neighbour_41 : decode cX1_neighbour 41 = .ok (.if_icmp .ne 18, 3) := by decide +kernel
theorem dX1_neighbour_44 : decode cX1_neighbour 44 = .ok (.iload_n 1, 1) := by decide +kernel
theorem dX1_neighbour_45 : decode cX1_neighbour 45 = .ok (.bipush 7, 2) := by decide +kernel
theorem dX1_neighbour_47 : decode cX1_neighbour 47 = .ok (.irem, 1) := by decide +kernel
theorem dX1_neighbour_48 : decode cX1_neighbour 48 = .ok (.ifCond .ne 7, 3) := by decide +kernel
theorem dX1_neighbour_51 : decode cX1_neighbour 51 = .ok (.iconst (-1), 1) := by decide +kernel
theorem dX1_neighbour_52 : decode cX1_neighbour 52 = .ok (.goto 6, 3) := by decide +kernel
theorem dX1_neighbour_55 : decode cX1_neighbour 55 = .ok (.iload_n 1, 1) := by decide +kernel
theorem dX1_neighbour_56 : decode cX1_neighbour 56 = .ok (.iconst 1, 1) := by decide +kernel
theorem dX1_neighbour_57 : decode cX1_neighbour 57 = .ok (.isub, 1) := by decide +kernel
theorem dX1_neighbour_58 : decode cX1_neighbour 58 = .ok (.ireturn, 1) := by decide +kernel
theorem dX1_neighbour_59 : decode cX1_neighbour 59 = .ok (.iload_n 1, 1) := by decide +kernel
theorem dX1_neighbour_60 : decode cX1_neighbour 60 = .ok (.bipush 7, 2) := by decide +kernel
theorem dX1_neighbour_62 : decode cX1_neighbour 62 = .ok (.irem, 1) := by decide +kernel
theorem dX1_neighbour_63 : decode cX1_neighbour 63 = .ok (.bipush 6, 2) := by decide +kernel
theorem dX1_neighbour_65 : decode cX1_neighbour 65 = .ok (.if_icmp .ne 7, 3) := by decide +kernel
theorem dX1_neighbour_68 : decode cX1_neighbour 68 = .ok (.iconst (-1), 1) := by decide +kernel
theorem dX1_neighbour_69 : decode cX1_neighbour 69 = .ok (.goto 6, 3) := by decide +kernel
theorem dX1_neighbour_72 : decode cX1_neighbour 72 = .ok (.iload_n 1, 1) := by decide +kernel
theorem dX1_neighbour_73 : decode cX1_neighbour 73 = .ok (.iconst 1, 1) := by decide +kernel
theorem dX1_neighbour_74 : decode cX1_neighbour 74 = .ok (.iadd, 1) := by decide +kernel
theorem dX1_neighbour_75 : decode cX1_neighbour 75 = .ok (.ireturn, 1) := by decide +kernel
theorem dX1_countLiberties_0 : decode cX1_countLiberties 0 = .ok (.iconst 0, 1) := by decide +kernel
theorem dX1_countLiberties_1 : decode cX1_countLiberties 1 = .ok (.istore_n 1, 1) := by decide +kernel
theorem dX1_countLiberties_2 : decode cX1_countLiberties 2 = .ok (.iconst 0, 1) := by decide +kernel
theorem dX1_countLiberties_3 : decode cX1_countLiberties 3 = .ok (.istore_n 2, 1) := by decide +kernel
theorem dX1_countLiberties_4 : decode cX1_countLiberties 4 = .ok (.iload_n 2, 1) := by decide +kernel
theorem dX1_countLiberties_5 : decode cX1_countLiberties 5 = .ok (.bipush 49, 2) := by decide +kernel
theorem dX1_countLiberties_7 : decode cX1_countLiberties 7 = .ok (.if_icmp .ge 82, 3) := by decide +kernel
theorem dX1_countLiberties_10 : decode cX1_countLiberties 10 = .ok (.iconst 0, 1) := by decide +kernel
theorem dX1_countLiberties_11 : decode cX1_countLiberties 11 = .ok (.istore_n 3, 1) := by decide +kernel
theorem dX1_countLiberties_12 : decode cX1_countLiberties 12 = .ok (.iconst 0, 1) := by decide +kernel
theorem dX1_countLiberties_13 : decode cX1_countLiberties 13 = .ok (.istore 4, 2) := by decide +kernel
theorem dX1_countLiberties_15 : decode cX1_countLiberties 15 = .ok (.iload 4, 2) := by decide +kernel
theorem dX1_countLiberties_17 : decode cX1_countLiberties 17 = .ok (.iconst 4, 1) := by decide +kernel
theorem dX1_countLiberties_18 : decode cX1_countLiberties 18 = .ok (.if_icmp .ge 53, 3) := by decide +kernel
theorem dX1_countLiberties_21 : decode cX1_countLiberties 21 = .ok (.aload_n 0, 1) := by decide +kernel
theorem dX1_countLiberties_22 : decode cX1_countLiberties 22 = .ok (.iload_n 2, 1) := by decide +kernel
theorem dX1_countLiberties_23 : decode cX1_countLiberties 23 = .ok (.iload 4, 2) := by decide +kernel
theorem dX1_countLiberties_25 : decode cX1_countLiberties 25 = .ok (.invokevirtual 35, 3) := by decide +kernel
theorem dX1_countLiberties_28 : decode cX1_countLiberties 28 = .ok (.istore 5, 2) := by decide +kernel
theorem dX1_countLiberties_30 : decode cX1_countLiberties 30 = .ok (.iload_n 3, 1) := by decide +kernel
theorem dX1_countLiberties_31 : decode cX1_countLiberties 31 = .ok (.ifCond .ne 28, 3) := by decide +kernel
theorem dX1_countLiberties_34 : decode cX1_countLiberties 34 = .ok (.aload_n 0, 1) := by decide +kernel
theorem dX1_countLiberties_35 : decode cX1_countLiberties 35 = .ok (.getfield 7, 3) := by decide +kernel
theorem dX1_countLiberties_38 : decode cX1_countLiberties 38 = .ok (.iload_n 2, 1) := by decide +kernel
theorem dX1_countLiberties_39 : decode cX1_countLiberties 39 = .ok (.iaload, 1) := by decide +kernel
theorem dX1_countLiberties_40 : decode cX1_countLiberties 40 = .ok (.iconst 2, 1) := by decide +kernel
theorem dX1_countLiberties_41 : decode cX1_countLiberties 41 = .ok (.if_icmp .ne 22, 3) := by decide +kernel
theorem dX1_countLiberties_44 : decode cX1_countLiberties 44 = .ok (.iload 5, 2) := by decide +kernel
theorem dX1_countLiberties_46 : decode cX1_countLiberties 46 = .ok (.ifCond .lt 17, 3) := by decide +kernel
theorem dX1_countLiberties_49 : decode cX1_countLiberties 49 = .ok (.aload_n 0, 1) := by decide +kernel
theorem dX1_countLiberties_50 : decode cX1_countLiberties 50 = .ok (.getfield 25, 3) := by decide +kernel
theorem dX1_countLiberties_53 : decode cX1_countLiberties 53 = .ok (.iload 5, 2) := by decide +kernel
theorem dX1_countLiberties_55 : decode cX1_countLiberties 55 = .ok (.baload, 1) := by decide +kernel
theorem dX1_countLiberties_56 : decode cX1_countLiberties 56 = .ok (.ifCond .eq 7, 3) := by decide +kernel
theorem dX1_countLiberties_59 : decode cX1_countLiberties 59 = .ok (.iconst 1, 1) := by decide +kernel
theorem dX1_countLiberties_60 : decode cX1_countLiberties 60 = .ok (.goto 4, 3) := by decide +kernel
theorem dX1_countLiberties_63 : decode cX1_countLiberties 63 = .ok (.iconst 0, 1) := by decide +kernel
theorem dX1_countLiberties_64 : decode cX1_countLiberties 64 = .ok (.istore_n 3, 1) := by decide +kernel
theorem dX1_countLiberties_65 : decode cX1_countLiberties 65 = .ok (.iinc 4 1, 3) := by decide +kernel
theorem dX1_countLiberties_68 : decode cX1_countLiberties 68 = .ok (.goto (-53), 3) := by decide +kernel
theorem dX1_countLiberties_71 : decode cX1_countLiberties 71 = .ok (.iload_n 3, 1) := by decide +kernel
theorem dX1_countLiberties_72 : decode cX1_countLiberties 72 = .ok (.ifCond .eq 9, 3) := by decide +kernel
theorem dX1_countLiberties_75 : decode cX1_countLiberties 75 = .ok (.iload_n 1, 1) := by decide +kernel
theorem dX1_countLiberties_76 : decode cX1_countLiberties 76 = .ok (.iconst 1, 1) := by decide +kernel
theorem dX1_countLiberties_77 : decode cX1_countLiberties 77 = .ok (.iadd, 1) := by decide +kernel
theorem dX1_countLiberties_78 : decode cX1_countLiberties 78 = .ok (.goto 4, 3) := by decide +kernel
theorem dX1_countLiberties_81 : decode cX1_countLiberties 81 = .ok (.iload_n 1, 1) := by decide +kernel
theorem dX1_countLiberties_82 : decode cX1_countLiberties 82 = .ok (.istore_n 1, 1) := by decide +kernel
theorem dX1_countLiberties_83 : decode cX1_countLiberties 83 = .ok (.iinc 2 1, 3) := by decide +kernel
theorem dX1_countLiberties_86 : decode cX1_countLiberties 86 = .ok (.goto (-82), 3) := by decide +kernel
theorem dX1_countLiberties_89 : decode cX1_countLiberties 89 = .ok (.iload_n 1, 1) := by decide +kernel
theorem dX1_countLiberties_90 : decode cX1_countLiberties 90 = .ok (.ireturn, 1) := by decide +kernel
theorem dX1_isAsBefore_0 : decode cX1_isAsBefore 0 = .ok (.iconst 0, 1) := by decide +kernel
theorem dX1_isAsBefore_1 : decode cX1_isAsBefore 1 = .ok (.istore_n 2, 1) := by decide +kernel
theorem dX1_isAsBefore_2 : decode cX1_isAsBefore 2 = .ok (.iload_n 2, 1) := by decide +kernel
theorem dX1_isAsBefore_3 : decode cX1_isAsBefore 3 = .ok (.bipush 49, 2) := by decide +kernel
theorem dX1_isAsBefore_5 : decode cX1_isAsBefore 5 = .ok (.if_icmp .ge 31, 3) := by decide +kernel
theorem dX1_isAsBefore_8 : decode cX1_isAsBefore 8 = .ok (.aload_n 0, 1) := by decide +kernel
theorem dX1_isAsBefore_9 : decode cX1_isAsBefore 9 = .ok (.getfield 7, 3) := by decide +kernel
theorem dX1_isAsBefore_12 : decode cX1_isAsBefore 12 = .ok (.iload_n 2, 1) := by decide +kernel
theorem dX1_isAsBefore_13 : decode cX1_isAsBefore 13 = .ok (.iaload, 1) := by decide +kernel
theorem dX1_isAsBefore_14 : decode cX1_isAsBefore 14 = .ok (.aload_n 0, 1) := by decide +kernel
theorem dX1_isAsBefore_15 : decode cX1_isAsBefore 15 = .ok (.getfield 13, 3) := by decide +kernel
theorem dX1_isAsBefore_18 : decode cX1_isAsBefore 18 = .ok (.bipush 49, 2) := by decide +kernel
theorem dX1_isAsBefore_20 : decode cX1_isAsBefore 20 = .ok (.iload_n 1, 1) := by decide +kernel
theorem dX1_isAsBefore_21 : decode cX1_isAsBefore 21 = .ok (.imul, 1) := by decide +kernel
theorem dX1_isAsBefore_22 : decode cX1_isAsBefore 22 = .ok (.iload_n 2, 1) := by decide +kernel
theorem dX1_isAsBefore_23 : decode cX1_isAsBefore 23 = .ok (.iadd, 1) := by decide +kernel
theorem dX1_isAsBefore_24 : decode cX1_isAsBefore 24 = .ok (.iaload, 1) := by decide +kernel
theorem dX1_isAsBefore_25 : decode cX1_isAsBefore 25 = .ok (.if_icmp .eq 5, 3) := by decide +kernel
theorem dX1_isAsBefore_28 : decode cX1_isAsBefore 28 = .ok (.iconst 0, 1) := by decide +kernel
theorem dX1_isAsBefore_29 : decode cX1_isAsBefore 29 = .ok (.ireturn, 1) := by decide +kernel
theorem dX1_isAsBefore_30 : decode cX1_isAsBefore 30 = .ok (.iinc 2 1, 3) := by decide +kernel
theorem dX1_isAsBefore_33 : decode cX1_isAsBefore 33 = .ok (.goto (-31), 3) := by decide +kernel
theorem dX1_isAsBefore_36 : decode cX1_isAsBefore 36 = .ok (.iconst 1, 1) := by decide +kernel
theorem dX1_isAsBefore_37 : decode cX1_isAsBefore 37 = .ok (.ireturn, 1) := by decide +kernel
theorem dX1_putBack_0 : decode cX1_putBack 0 = .ok (.iconst 0, 1) := by decide +kernel
theorem dX1_putBack_1 : decode cX1_putBack 1 = .ok (.istore_n 1, 1) := by decide +kernel
theorem dX1_putBack_2 : decode cX1_putBack 2 = .ok (.iload_n 1, 1) := by decide +kernel
theorem dX1_putBack_3 : decode cX1_putBack 3 = .ok (.bipush 49, 2) := by decide +kernel
theorem dX1_putBack_5 : decode cX1_putBack 5 = .ok (.if_icmp .ge 21, 3) := by decide +kernel
theorem dX1_putBack_8 : decode cX1_putBack 8 = .ok (.aload_n 0, 1) := by decide +kernel
theorem dX1_putBack_9 : decode cX1_putBack 9 = .ok (.getfield 7, 3) := by decide +kernel
theorem dX1_putBack_12 : decode cX1_putBack 12 = .ok (.iload_n 1, 1) := by decide +kernel
theorem dX1_putBack_13 : decode cX1_putBack 13 = .ok (.aload_n 0, 1) := by decide +kernel
theorem dX1_putBack_14 : decode cX1_putBack 14 = .ok (.getfield 32, 3) := by decide +kernel
theorem dX1_putBack_17 : decode cX1_putBack 17 = .ok (.iload_n 1, 1) := by decide +kernel
theorem dX1_putBack_18 : decode cX1_putBack 18 = .ok (.iaload, 1) := by decide +kernel
theorem dX1_putBack_19 : decode cX1_putBack 19 = .ok (.iastore, 1) := by decide +kernel
theorem dX1_putBack_20 : decode cX1_putBack 20 = .ok (.iinc 1 1, 3) := by decide +kernel
theorem dX1_putBack_23 : decode cX1_putBack 23 = .ok (.goto (-21), 3) := by decide +kernel
end
section
set_option maxRecDepth 100000
theorem dX1_putBack_26 : decode cX1_putBack 26 = .ok (.return_, 1) := by decide +kernel
theorem dX1_note_0 : decode cX1_note 0 = .ok (.iconst 0, 1) := by decide +kernel
theorem dX1_note_1 : decode cX1_note 1 = .ok (.istore_n 1, 1) := by decide +kernel
theorem dX1_note_2 : decode cX1_note 2 = .ok (.iload_n 1, 1) := by decide +kernel
theorem dX1_note_3 : decode cX1_note 3 = .ok (.bipush 49, 2) := by decide +kernel
theorem dX1_note_5 : decode cX1_note 5 = .ok (.if_icmp .ge 29, 3) := by decide +kernel
theorem dX1_note_8 : decode cX1_note 8 = .ok (.aload_n 0, 1) := by decide +kernel
theorem dX1_note_9 : decode cX1_note 9 = .ok (.getfield 13, 3) := by decide +kernel
theorem dX1_note_12 : decode cX1_note 12 = .ok (.bipush 49, 2) := by decide +kernel
theorem dX1_note_14 : decode cX1_note 14 = .ok (.aload_n 0, 1) := by decide +kernel
theorem dX1_note_15 : decode cX1_note 15 = .ok (.getfield 54, 3) := by decide +kernel
theorem dX1_note_18 : decode cX1_note 18 = .ok (.imul, 1) := by decide +kernel
theorem dX1_note_19 : decode cX1_note 19 = .ok (.iload_n 1, 1) := by decide +kernel
theorem dX1_note_20 : decode cX1_note 20 = .ok (.iadd, 1) := by decide +kernel
theorem dX1_note_21 : decode cX1_note 21 = .ok (.aload_n 0, 1) := by decide +kernel
theorem dX1_note_22 : decode cX1_note 22 = .ok (.getfield 32, 3) := by decide +kernel
theorem dX1_note_25 : decode cX1_note 25 = .ok (.iload_n 1, 1) := by decide +kernel
theorem dX1_note_26 : decode cX1_note 26 = .ok (.iaload, 1) := by decide +kernel
theorem dX1_note_27 : decode cX1_note 27 = .ok (.iastore, 1) := by decide +kernel
theorem dX1_note_28 : decode cX1_note 28 = .ok (.iinc 1 1, 3) := by decide +kernel
theorem dX1_note_31 : decode cX1_note 31 = .ok (.goto (-29), 3) := by decide +kernel
theorem dX1_note_34 : decode cX1_note 34 = .ok (.aload_n 0, 1) := by decide +kernel
theorem dX1_note_35 : decode cX1_note 35 = .ok (.getfield 16, 3) := by decide +kernel
theorem dX1_note_38 : decode cX1_note 38 = .ok (.aload_n 0, 1) := by decide +kernel
theorem dX1_note_39 : decode cX1_note 39 = .ok (.getfield 54, 3) := by decide +kernel
theorem dX1_note_42 : decode cX1_note 42 = .ok (.aload_n 0, 1) := by decide +kernel
theorem dX1_note_43 : decode cX1_note 43 = .ok (.getfield 22, 3) := by decide +kernel
theorem dX1_note_46 : decode cX1_note 46 = .ok (.iconst 0, 1) := by decide +kernel
theorem dX1_note_47 : decode cX1_note 47 = .ok (.iaload, 1) := by decide +kernel
theorem dX1_note_48 : decode cX1_note 48 = .ok (.iastore, 1) := by decide +kernel
theorem dX1_note_49 : decode cX1_note 49 = .ok (.aload_n 0, 1) := by decide +kernel
theorem dX1_note_50 : decode cX1_note 50 = .ok (.getfield 19, 3) := by decide +kernel
theorem dX1_note_53 : decode cX1_note 53 = .ok (.aload_n 0, 1) := by decide +kernel
theorem dX1_note_54 : decode cX1_note 54 = .ok (.getfield 54, 3) := by decide +kernel
theorem dX1_note_57 : decode cX1_note 57 = .ok (.aload_n 0, 1) := by decide +kernel
theorem dX1_note_58 : decode cX1_note 58 = .ok (.getfield 22, 3) := by decide +kernel
theorem dX1_note_61 : decode cX1_note 61 = .ok (.iconst 1, 1) := by decide +kernel
theorem dX1_note_62 : decode cX1_note 62 = .ok (.iaload, 1) := by decide +kernel
theorem dX1_note_63 : decode cX1_note 63 = .ok (.iastore, 1) := by decide +kernel
theorem dX1_note_64 : decode cX1_note 64 = .ok (.aload_n 0, 1) := by decide +kernel
theorem dX1_note_65 : decode cX1_note 65 = .ok (.dup, 1) := by decide +kernel
theorem dX1_note_66 : decode cX1_note 66 = .ok (.getfield 54, 3) := by decide +kernel
theorem dX1_note_69 : decode cX1_note 69 = .ok (.iconst 1, 1) := by decide +kernel
theorem dX1_note_70 : decode cX1_note 70 = .ok (.iadd, 1) := by decide +kernel
theorem dX1_note_71 : decode cX1_note 71 = .ok (.putfield 54, 3) := by decide +kernel
theorem dX1_note_74 : decode cX1_note 74 = .ok (.return_, 1) := by decide +kernel
theorem dX1_pass_0 : decode cX1_pass 0 = .ok (.aload_n 0, 1) := by decide +kernel
theorem dX1_pass_1 : decode cX1_pass 1 = .ok (.getfield 54, 3) := by decide +kernel
theorem dX1_pass_4 : decode cX1_pass 4 = .ok (.bipush 40, 2) := by decide +kernel
theorem dX1_pass_6 : decode cX1_pass 6 = .ok (.if_icmp .ne 6, 3) := by decide +kernel
theorem dX1_pass_9 : decode cX1_pass 9 = .ok (.bipush (-3), 2) := by decide +kernel
theorem dX1_pass_11 : decode cX1_pass 11 = .ok (.ireturn, 1) := by decide +kernel
theorem dX1_pass_12 : decode cX1_pass 12 = .ok (.iconst 0, 1) := by decide +kernel
theorem dX1_pass_13 : decode cX1_pass 13 = .ok (.istore_n 1, 1) := by decide +kernel
theorem dX1_pass_14 : decode cX1_pass 14 = .ok (.iload_n 1, 1) := by decide +kernel
theorem dX1_pass_15 : decode cX1_pass 15 = .ok (.bipush 49, 2) := by decide +kernel
theorem dX1_pass_17 : decode cX1_pass 17 = .ok (.if_icmp .ge 21, 3) := by decide +kernel
theorem dX1_pass_20 : decode cX1_pass 20 = .ok (.aload_n 0, 1) := by decide +kernel
theorem dX1_pass_21 : decode cX1_pass 21 = .ok (.getfield 32, 3) := by decide +kernel
theorem dX1_pass_24 : decode cX1_pass 24 = .ok (.iload_n 1, 1) := by decide +kernel
theorem dX1_pass_25 : decode cX1_pass 25 = .ok (.aload_n 0, 1) := by decide +kernel
theorem dX1_pass_26 : decode cX1_pass 26 = .ok (.getfield 7, 3) := by decide +kernel
theorem dX1_pass_29 : decode cX1_pass 29 = .ok (.iload_n 1, 1) := by decide +kernel
theorem dX1_pass_30 : decode cX1_pass 30 = .ok (.iaload, 1) := by decide +kernel
theorem dX1_pass_31 : decode cX1_pass 31 = .ok (.iastore, 1) := by decide +kernel
theorem dX1_pass_32 : decode cX1_pass 32 = .ok (.iinc 1 1, 3) := by decide +kernel
theorem dX1_pass_35 : decode cX1_pass 35 = .ok (.goto (-21), 3) := by decide +kernel
theorem dX1_pass_38 : decode cX1_pass 38 = .ok (.aload_n 0, 1) := by decide +kernel
theorem dX1_pass_39 : decode cX1_pass 39 = .ok (.invokevirtual 74, 3) := by decide +kernel
theorem dX1_pass_42 : decode cX1_pass 42 = .ok (.aload_n 0, 1) := by decide +kernel
theorem dX1_pass_43 : decode cX1_pass 43 = .ok (.getfield 54, 3) := by decide +kernel
theorem dX1_pass_46 : decode cX1_pass 46 = .ok (.ireturn, 1) := by decide +kernel
theorem dX1_undo_0 : decode cX1_undo 0 = .ok (.aload_n 0, 1) := by decide +kernel
theorem dX1_undo_1 : decode cX1_undo 1 = .ok (.getfield 54, 3) := by decide +kernel
theorem dX1_undo_4 : decode cX1_undo 4 = .ok (.ifCond .ne 6, 3) := by decide +kernel
theorem dX1_undo_7 : decode cX1_undo 7 = .ok (.bipush (-2), 2) := by decide +kernel
theorem dX1_undo_9 : decode cX1_undo 9 = .ok (.ireturn, 1) := by decide +kernel
theorem dX1_undo_10 : decode cX1_undo 10 = .ok (.aload_n 0, 1) := by decide +kernel
theorem dX1_undo_11 : decode cX1_undo 11 = .ok (.dup, 1) := by decide +kernel
theorem dX1_undo_12 : decode cX1_undo 12 = .ok (.getfield 54, 3) := by decide +kernel
theorem dX1_undo_15 : decode cX1_undo 15 = .ok (.iconst 1, 1) := by decide +kernel
theorem dX1_undo_16 : decode cX1_undo 16 = .ok (.isub, 1) := by decide +kernel
theorem dX1_undo_17 : decode cX1_undo 17 = .ok (.putfield 54, 3) := by decide +kernel
theorem dX1_undo_20 : decode cX1_undo 20 = .ok (.iconst 0, 1) := by decide +kernel
theorem dX1_undo_21 : decode cX1_undo 21 = .ok (.istore_n 1, 1) := by decide +kernel
theorem dX1_undo_22 : decode cX1_undo 22 = .ok (.iload_n 1, 1) := by decide +kernel
theorem dX1_undo_23 : decode cX1_undo 23 = .ok (.bipush 49, 2) := by decide +kernel
theorem dX1_undo_25 : decode cX1_undo 25 = .ok (.if_icmp .ge 29, 3) := by decide +kernel
theorem dX1_undo_28 : decode cX1_undo 28 = .ok (.aload_n 0, 1) := by decide +kernel
theorem dX1_undo_29 : decode cX1_undo 29 = .ok (.getfield 7, 3) := by decide +kernel
theorem dX1_undo_32 : decode cX1_undo 32 = .ok (.iload_n 1, 1) := by decide +kernel
theorem dX1_undo_33 : decode cX1_undo 33 = .ok (.aload_n 0, 1) := by decide +kernel
theorem dX1_undo_34 : decode cX1_undo 34 = .ok (.getfield 13, 3) := by decide +kernel
theorem dX1_undo_37 : decode cX1_undo 37 = .ok (.bipush 49, 2) := by decide +kernel
theorem dX1_undo_39 : decode cX1_undo 39 = .ok (.aload_n 0, 1) := by decide +kernel
theorem dX1_undo_40 : decode cX1_undo 40 = .ok (.getfield 54, 3) := by decide +kernel
theorem dX1_undo_43 : decode cX1_undo 43 = .ok (.imul, 1) := by decide +kernel
theorem dX1_undo_44 : decode cX1_undo 44 = .ok (.iload_n 1, 1) := by decide +kernel
theorem dX1_undo_45 : decode cX1_undo 45 = .ok (.iadd, 1) := by decide +kernel
theorem dX1_undo_46 : decode cX1_undo 46 = .ok (.iaload, 1) := by decide +kernel
theorem dX1_undo_47 : decode cX1_undo 47 = .ok (.iastore, 1) := by decide +kernel
theorem dX1_undo_48 : decode cX1_undo 48 = .ok (.iinc 1 1, 3) := by decide +kernel
theorem dX1_undo_51 : decode cX1_undo 51 = .ok (.goto (-29), 3) := by decide +kernel
theorem dX1_undo_54 : decode cX1_undo 54 = .ok (.aload_n 0, 1) := by decide +kernel
theorem dX1_undo_55 : decode cX1_undo 55 = .ok (.getfield 22, 3) := by decide +kernel
theorem dX1_undo_58 : decode cX1_undo 58 = .ok (.iconst 0, 1) := by decide +kernel
theorem dX1_undo_59 : decode cX1_undo 59 = .ok (.aload_n 0, 1) := by decide +kernel
theorem dX1_undo_60 : decode cX1_undo 60 = .ok (.getfield 16, 3) := by decide +kernel
theorem dX1_undo_63 : decode cX1_undo 63 = .ok (.aload_n 0, 1) := by decide +kernel
theorem dX1_undo_64 : decode cX1_undo 64 = .ok (.getfield 54, 3) := by decide +kernel
theorem dX1_undo_67 : decode cX1_undo 67 = .ok (.iaload, 1) := by decide +kernel
theorem dX1_undo_68 : decode cX1_undo 68 = .ok (.iastore, 1) := by decide +kernel
theorem dX1_undo_69 : decode cX1_undo 69 = .ok (.aload_n 0, 1) := by decide +kernel
theorem dX1_undo_70 : decode cX1_undo 70 = .ok (.getfield 22, 3) := by decide +kernel
theorem dX1_undo_73 : decode cX1_undo 73 = .ok (.iconst 1, 1) := by decide +kernel
theorem dX1_undo_74 : decode cX1_undo 74 = .ok (.aload_n 0, 1) := by decide +kernel
theorem dX1_undo_75 : decode cX1_undo 75 = .ok (.getfield 19, 3) := by decide +kernel
theorem dX1_undo_78 : decode cX1_undo 78 = .ok (.aload_n 0, 1) := by decide +kernel
theorem dX1_undo_79 : decode cX1_undo 79 = .ok (.getfield 54, 3) := by decide +kernel
theorem dX1_undo_82 : decode cX1_undo 82 = .ok (.iaload, 1) := by decide +kernel
theorem dX1_undo_83 : decode cX1_undo 83 = .ok (.iastore, 1) := by decide +kernel
theorem dX1_undo_84 : decode cX1_undo 84 = .ok (.aload_n 0, 1) := by decide +kernel
theorem dX1_undo_85 : decode cX1_undo 85 = .ok (.getfield 54, 3) := by decide +kernel
theorem dX1_undo_88 : decode cX1_undo 88 = .ok (.ireturn, 1) := by decide +kernel
theorem dX1_set_0 : decode cX1_set 0 = .ok (.iload_n 1, 1) := by decide +kernel
theorem dX1_set_1 : decode cX1_set 1 = .ok (.ifCond .lt 16, 3) := by decide +kernel
theorem dX1_set_4 : decode cX1_set 4 = .ok (.iload_n 1, 1) := by decide +kernel
theorem dX1_set_5 : decode cX1_set 5 = .ok (.iconst 2, 1) := by decide +kernel
theorem dX1_set_6 : decode cX1_set 6 = .ok (.if_icmp .gt 11, 3) := by decide +kernel
theorem dX1_set_9 : decode cX1_set 9 = .ok (.aload_n 0, 1) := by decide +kernel
theorem dX1_set_10 : decode cX1_set 10 = .ok (.iload_n 2, 1) := by decide +kernel
theorem dX1_set_11 : decode cX1_set 11 = .ok (.invokevirtual 65, 3) := by decide +kernel
theorem dX1_set_14 : decode cX1_set 14 = .ok (.ifCond .ne 5, 3) := by decide +kernel
theorem dX1_set_17 : decode cX1_set 17 = .ok (.iconst (-1), 1) := by decide +kernel
theorem dX1_set_18 : decode cX1_set 18 = .ok (.ireturn, 1) := by decide +kernel
theorem dX1_set_19 : decode cX1_set 19 = .ok (.aload_n 0, 1) := by decide +kernel
theorem dX1_set_20 : decode cX1_set 20 = .ok (.getfield 7, 3) := by decide +kernel
theorem dX1_set_23 : decode cX1_set 23 = .ok (.iload_n 2, 1) := by decide +kernel
theorem dX1_set_24 : decode cX1_set 24 = .ok (.iaload, 1) := by decide +kernel
theorem dX1_set_25 : decode cX1_set 25 = .ok (.iconst 2, 1) := by decide +kernel
theorem dX1_set_26 : decode cX1_set 26 = .ok (.if_icmp .ne 7, 3) := by decide +kernel
theorem dX1_set_29 : decode cX1_set 29 = .ok (.iconst 1, 1) := by decide +kernel
theorem dX1_set_30 : decode cX1_set 30 = .ok (.goto 4, 3) := by decide +kernel
theorem dX1_set_33 : decode cX1_set 33 = .ok (.iconst 0, 1) := by decide +kernel
theorem dX1_set_34 : decode cX1_set 34 = .ok (.iload_n 1, 1) := by decide +kernel
theorem dX1_set_35 : decode cX1_set 35 = .ok (.iconst 2, 1) := by decide +kernel
theorem dX1_set_36 : decode cX1_set 36 = .ok (.if_icmp .ge 7, 3) := by decide +kernel
theorem dX1_set_39 : decode cX1_set 39 = .ok (.iconst 1, 1) := by decide +kernel
theorem dX1_set_40 : decode cX1_set 40 = .ok (.goto 4, 3) := by decide +kernel
theorem dX1_set_43 : decode cX1_set 43 = .ok (.iconst 0, 1) := by decide +kernel
theorem dX1_set_44 : decode cX1_set 44 = .ok (.if_icmp .eq 6, 3) := by decide +kernel
theorem dX1_set_47 : decode cX1_set 47 = .ok (.bipush (-2), 2) := by decide +kernel
theorem dX1_set_49 : decode cX1_set 49 = .ok (.ireturn, 1) := by decide +kernel
theorem dX1_set_50 : decode cX1_set 50 = .ok (.aload_n 0, 1) := by decide +kernel
theorem dX1_set_51 : decode cX1_set 51 = .ok (.getfield 7, 3) := by decide +kernel
theorem dX1_set_54 : decode cX1_set 54 = .ok (.iload_n 2, 1) := by decide +kernel
theorem dX1_set_55 : decode cX1_set 55 = .ok (.iload_n 1, 1) := by decide +kernel
theorem dX1_set_56 : decode cX1_set 56 = .ok (.iastore, 1) := by decide +kernel
theorem dX1_set_57 : decode cX1_set 57 = .ok (.aload_n 0, 1) := by decide +kernel
theorem dX1_set_58 : decode cX1_set 58 = .ok (.iconst 0, 1) := by decide +kernel
theorem dX1_set_59 : decode cX1_set 59 = .ok (.putfield 54, 3) := by decide +kernel
theorem dX1_set_62 : decode cX1_set 62 = .ok (.aload_n 0, 1) := by decide +kernel
theorem dX1_set_63 : decode cX1_set 63 = .ok (.getfield 22, 3) := by decide +kernel
theorem dX1_set_66 : decode cX1_set 66 = .ok (.iconst 0, 1) := by decide +kernel
theorem dX1_set_67 : decode cX1_set 67 = .ok (.iconst 0, 1) := by decide +kernel
theorem dX1_set_68 : decode cX1_set 68 = .ok (.iastore, 1) := by decide +kernel
theorem dX1_set_69 : decode cX1_set 69 = .ok (.aload_n 0, 1) := by decide +kernel
theorem dX1_set_70 : decode cX1_set 70 = .ok (.getfield 22, 3) := by decide +kernel
theorem dX1_set_73 : decode cX1_set 73 = .ok (.iconst 1, 1) := by decide +kernel
theorem dX1_set_74 : decode cX1_set 74 = .ok (.iconst 0, 1) := by decide +kernel
theorem dX1_set_75 : decode cX1_set 75 = .ok (.iastore, 1) := by decide +kernel
theorem dX1_set_76 : decode cX1_set 76 = .ok (.iconst 0, 1) := by decide +kernel
theorem dX1_set_77 : decode cX1_set 77 = .ok (.ireturn, 1) := by decide +kernel
theorem dX1_at_0 : decode cX1_at 0 = .ok (.aload_n 0, 1) := by decide +kernel
theorem dX1_at_1 : decode cX1_at 1 = .ok (.iload_n 1, 1) := by decide +kernel
theorem dX1_at_2 : decode cX1_at 2 = .ok (.invokevirtual 65, 3) := by decide +kernel
theorem dX1_at_5 : decode cX1_at 5 = .ok (.ifCond .eq 12, 3) := by decide +kernel
theorem dX1_at_8 : decode cX1_at 8 = .ok (.aload_n 0, 1) := by decide +kernel
theorem dX1_at_9 : decode cX1_at 9 = .ok (.getfield 7, 3) := by decide +kernel
theorem dX1_at_12 : decode cX1_at 12 = .ok (.iload_n 1, 1) := by decide +kernel
theorem dX1_at_13 : decode cX1_at 13 = .ok (.iaload, 1) := by decide +kernel
theorem dX1_at_14 : decode cX1_at 14 = .ok (.goto 4, 3) := by decide +kernel
theorem dX1_at_17 : decode cX1_at 17 = .ok (.iconst (-1), 1) := by decide +kernel
theorem dX1_at_18 : decode cX1_at 18 = .ok (.ireturn, 1) := by decide +kernel
theorem dX1_captured_0 : decode cX1_captured 0 = .ok (.aload_n 0, 1) := by decide +kernel
theorem dX1_captured_1 : decode cX1_captured 1 = .ok (.iload_n 1, 1) := by decide +kernel
theorem dX1_captured_2 : decode cX1_captured 2 = .ok (.invokevirtual 62, 3) := by decide +kernel
theorem dX1_captured_5 : decode cX1_captured 5 = .ok (.ifCond .eq 12, 3) := by decide +kernel
theorem dX1_captured_8 : decode cX1_captured 8 = .ok (.aload_n 0, 1) := by decide +kernel
theorem dX1_captured_9 : decode cX1_captured 9 = .ok (.getfield 22, 3) := by decide +kernel
theorem dX1_captured_12 : decode cX1_captured 12 = .ok (.iload_n 1, 1) := by decide +kernel
theorem dX1_captured_13 : decode cX1_captured 13 = .ok (.iaload, 1) := by decide +kernel
theorem dX1_captured_14 : decode cX1_captured 14 = .ok (.goto 4, 3) := by decide +kernel
theorem dX1_captured_17 : decode cX1_captured 17 = .ok (.iconst (-1), 1) := by decide +kernel
theorem dX1_captured_18 : decode cX1_captured 18 = .ok (.ireturn, 1) := by decide +kernel
theorem dX1_groupSize_0 : decode cX1_groupSize 0 = .ok (.aload_n 0, 1) := by decide +kernel
theorem dX1_groupSize_1 : decode cX1_groupSize 1 = .ok (.iload_n 1, 1) := by decide +kernel
theorem dX1_groupSize_2 : decode cX1_groupSize 2 = .ok (.invokevirtual 65, 3) := by decide +kernel
theorem dX1_groupSize_5 : decode cX1_groupSize 5 = .ok (.ifCond .ne 5, 3) := by decide +kernel
theorem dX1_groupSize_8 : decode cX1_groupSize 8 = .ok (.iconst (-1), 1) := by decide +kernel
theorem dX1_groupSize_9 : decode cX1_groupSize 9 = .ok (.ireturn, 1) := by decide +kernel
theorem dX1_groupSize_10 : decode cX1_groupSize 10 = .ok (.aload_n 0, 1) := by decide +kernel
theorem dX1_groupSize_11 : decode cX1_groupSize 11 = .ok (.getfield 7, 3) := by decide +kernel
theorem dX1_groupSize_14 : decode cX1_groupSize 14 = .ok (.iload_n 1, 1) := by decide +kernel
theorem dX1_groupSize_15 : decode cX1_groupSize 15 = .ok (.iaload, 1) := by decide +kernel
theorem dX1_groupSize_16 : decode cX1_groupSize 16 = .ok (.iconst 2, 1) := by decide +kernel
theorem dX1_groupSize_17 : decode cX1_groupSize 17 = .ok (.if_icmp .ne 8, 3) := by decide +kernel
theorem dX1_groupSize_20 : decode cX1_groupSize 20 = .ok (.bipush (-2), 2) := by decide +kernel
theorem dX1_groupSize_22 : decode cX1_groupSize 22 = .ok (.goto 8, 3) := by decide +kernel
theorem dX1_groupSize_25 : decode cX1_groupSize 25 = .ok (.aload_n 0, 1) := by decide +kernel
theorem dX1_groupSize_26 : decode cX1_groupSize 26 = .ok (.iload_n 1, 1) := by decide +kernel
theorem dX1_groupSize_27 : decode cX1_groupSize 27 = .ok (.invokevirtual 43, 3) := by decide +kernel
theorem dX1_groupSize_30 : decode cX1_groupSize 30 = .ok (.ireturn, 1) := by decide +kernel
theorem dX1_liberties_0 : decode cX1_liberties 0 = .ok (.aload_n 0, 1) := by decide +kernel
theorem dX1_liberties_1 : decode cX1_liberties 1 = .ok (.iload_n 1, 1) := by decide +kernel
theorem dX1_liberties_2 : decode cX1_liberties 2 = .ok (.invokevirtual 65, 3) := by decide +kernel
theorem dX1_liberties_5 : decode cX1_liberties 5 = .ok (.ifCond .ne 5, 3) := by decide +kernel
theorem dX1_liberties_8 : decode cX1_liberties 8 = .ok (.iconst (-1), 1) := by decide +kernel
theorem dX1_liberties_9 : decode cX1_liberties 9 = .ok (.ireturn, 1) := by decide +kernel
theorem dX1_liberties_10 : decode cX1_liberties 10 = .ok (.aload_n 0, 1) := by decide +kernel
theorem dX1_liberties_11 : decode cX1_liberties 11 = .ok (.getfield 7, 3) := by decide +kernel
theorem dX1_liberties_14 : decode cX1_liberties 14 = .ok (.iload_n 1, 1) := by decide +kernel
theorem dX1_liberties_15 : decode cX1_liberties 15 = .ok (.iaload, 1) := by decide +kernel
theorem dX1_liberties_16 : decode cX1_liberties 16 = .ok (.iconst 2, 1) := by decide +kernel
theorem dX1_liberties_17 : decode cX1_liberties 17 = .ok (.if_icmp .ne 6, 3) := by decide +kernel
theorem dX1_liberties_20 : decode cX1_liberties 20 = .ok (.bipush (-2), 2) := by decide +kernel
theorem dX1_liberties_22 : decode cX1_liberties 22 = .ok (.ireturn, 1) := by decide +kernel
theorem dX1_liberties_23 : decode cX1_liberties 23 = .ok (.aload_n 0, 1) := by decide +kernel
theorem dX1_liberties_24 : decode cX1_liberties 24 = .ok (.iload_n 1, 1) := by decide +kernel
theorem dX1_liberties_25 : decode cX1_liberties 25 = .ok (.invokevirtual 43, 3) := by decide +kernel
theorem dX1_liberties_28 : decode cX1_liberties 28 = .ok (.pop, 1) := by decide +kernel
theorem dX1_liberties_29 : decode cX1_liberties 29 = .ok (.aload_n 0, 1) := by decide +kernel
theorem dX1_liberties_30 : decode cX1_liberties 30 = .ok (.invokevirtual 47, 3) := by decide +kernel
theorem dX1_liberties_33 : decode cX1_liberties 33 = .ok (.ireturn, 1) := by decide +kernel
theorem dX1_trial_0 : decode cX1_trial 0 = .ok (.aload_n 0, 1) := by decide +kernel
theorem dX1_trial_1 : decode cX1_trial 1 = .ok (.iload_n 1, 1) := by decide +kernel
theorem dX1_trial_2 : decode cX1_trial 2 = .ok (.invokevirtual 62, 3) := by decide +kernel
theorem dX1_trial_5 : decode cX1_trial 5 = .ok (.ifCond .eq 11, 3) := by decide +kernel
theorem dX1_trial_8 : decode cX1_trial 8 = .ok (.aload_n 0, 1) := by decide +kernel
theorem dX1_trial_9 : decode cX1_trial 9 = .ok (.iload_n 2, 1) := by decide +kernel
theorem dX1_trial_10 : decode cX1_trial 10 = .ok (.invokevirtual 65, 3) := by decide +kernel
theorem dX1_trial_13 : decode cX1_trial 13 = .ok (.ifCond .ne 5, 3) := by decide +kernel
theorem dX1_trial_16 : decode cX1_trial 16 = .ok (.iconst (-1), 1) := by decide +kernel
theorem dX1_trial_17 : decode cX1_trial 17 = .ok (.ireturn, 1) := by decide +kernel
theorem dX1_trial_18 : decode cX1_trial 18 = .ok (.aload_n 0, 1) := by decide +kernel
theorem dX1_trial_19 : decode cX1_trial 19 = .ok (.getfield 7, 3) := by decide +kernel
theorem dX1_trial_22 : decode cX1_trial 22 = .ok (.iload_n 2, 1) := by decide +kernel
theorem dX1_trial_23 : decode cX1_trial 23 = .ok (.iaload, 1) := by decide +kernel
theorem dX1_trial_24 : decode cX1_trial 24 = .ok (.iconst 2, 1) := by decide +kernel
theorem dX1_trial_25 : decode cX1_trial 25 = .ok (.if_icmp .eq 6, 3) := by decide +kernel
theorem dX1_trial_28 : decode cX1_trial 28 = .ok (.bipush (-2), 2) := by decide +kernel
theorem dX1_trial_30 : decode cX1_trial 30 = .ok (.ireturn, 1) := by decide +kernel
theorem dX1_trial_31 : decode cX1_trial 31 = .ok (.aload_n 0, 1) := by decide +kernel
theorem dX1_trial_32 : decode cX1_trial 32 = .ok (.iload_n 1, 1) := by decide +kernel
theorem dX1_trial_33 : decode cX1_trial 33 = .ok (.iload_n 2, 1) := by decide +kernel
theorem dX1_trial_34 : decode cX1_trial 34 = .ok (.invokevirtual 68, 3) := by decide +kernel
theorem dX1_trial_37 : decode cX1_trial 37 = .ok (.istore_n 3, 1) := by decide +kernel
theorem dX1_trial_38 : decode cX1_trial 38 = .ok (.aload_n 0, 1) := by decide +kernel
theorem dX1_trial_39 : decode cX1_trial 39 = .ok (.invokevirtual 71, 3) := by decide +kernel
theorem dX1_trial_42 : decode cX1_trial 42 = .ok (.iload_n 3, 1) := by decide +kernel
theorem dX1_trial_43 : decode cX1_trial 43 = .ok (.ireturn, 1) := by decide +kernel
theorem dX1_moves_0 : decode cX1_moves 0 = .ok (.aload_n 0, 1) := by decide +kernel
theorem dX1_moves_1 : decode cX1_moves 1 = .ok (.iload_n 1, 1) := by decide +kernel
theorem dX1_moves_2 : decode cX1_moves 2 = .ok (.invokevirtual 62, 3) := by decide +kernel
theorem dX1_moves_5 : decode cX1_moves 5 = .ok (.ifCond .ne 5, 3) := by decide +kernel
theorem dX1_moves_8 : decode cX1_moves 8 = .ok (.iconst (-1), 1) := by decide +kernel
theorem dX1_moves_9 : decode cX1_moves 9 = .ok (.ireturn, 1) := by decide +kernel
theorem dX1_moves_10 : decode cX1_moves 10 = .ok (.iconst 0, 1) := by decide +kernel
theorem dX1_moves_11 : decode cX1_moves 11 = .ok (.istore_n 2, 1) := by decide +kernel
theorem dX1_moves_12 : decode cX1_moves 12 = .ok (.iconst 0, 1) := by decide +kernel
theorem dX1_moves_13 : decode cX1_moves 13 = .ok (.istore_n 3, 1) := by decide +kernel
theorem dX1_moves_14 : decode cX1_moves 14 = .ok (.iload_n 3, 1) := by decide +kernel
theorem dX1_moves_15 : decode cX1_moves 15 = .ok (.bipush 49, 2) := by decide +kernel
theorem dX1_moves_17 : decode cX1_moves 17 = .ok (.if_icmp .ge 26, 3) := by decide +kernel
theorem dX1_moves_20 : decode cX1_moves 20 = .ok (.aload_n 0, 1) := by decide +kernel
theorem dX1_moves_21 : decode cX1_moves 21 = .ok (.iload_n 1, 1) := by decide +kernel
theorem dX1_moves_22 : decode cX1_moves 22 = .ok (.iload_n 3, 1) := by decide +kernel
theorem dX1_moves_23 : decode cX1_moves 23 = .ok (.invokevirtual 77, 3) := by decide +kernel
theorem dX1_moves_26 : decode cX1_moves 26 = .ok (.ifCond .lt 9, 3) := by decide +kernel
theorem dX1_moves_29 : decode cX1_moves 29 = .ok (.iload_n 2, 1) := by decide +kernel
theorem dX1_moves_30 : decode cX1_moves 30 = .ok (.iconst 1, 1) := by decide +kernel
theorem dX1_moves_31 : decode cX1_moves 31 = .ok (.iadd, 1) := by decide +kernel
theorem dX1_moves_32 : decode cX1_moves 32 = .ok (.goto 4, 3) := by decide +kernel
theorem dX1_moves_35 : decode cX1_moves 35 = .ok (.iload_n 2, 1) := by decide +kernel
theorem dX1_moves_36 : decode cX1_moves 36 = .ok (.istore_n 2, 1) := by decide +kernel
theorem dX1_moves_37 : decode cX1_moves 37 = .ok (.iinc 3 1, 3) := by decide +kernel
theorem dX1_moves_40 : decode cX1_moves 40 = .ok (.goto (-26), 3) := by decide +kernel
theorem dX1_moves_43 : decode cX1_moves 43 = .ok (.iload_n 2, 1) := by decide +kernel
theorem dX1_moves_44 : decode cX1_moves 44 = .ok (.ireturn, 1) := by decide +kernel
theorem dX1_groups_0 : decode cX1_groups 0 = .ok (.aload_n 0, 1) := by decide +kernel
theorem dX1_groups_1 : decode cX1_groups 1 = .ok (.iload_n 1, 1) := by decide +kernel
theorem dX1_groups_2 : decode cX1_groups 2 = .ok (.invokevirtual 62, 3) := by decide +kernel
theorem dX1_groups_5 : decode cX1_groups 5 = .ok (.ifCond .ne 5, 3) := by decide +kernel
theorem dX1_groups_8 : decode cX1_groups 8 = .ok (.iconst (-1), 1) := by decide +kernel
theorem dX1_groups_9 : decode cX1_groups 9 = .ok (.ireturn, 1) := by decide +kernel
theorem dX1_groups_10 : decode cX1_groups 10 = .ok (.iconst 0, 1) := by decide +kernel
theorem dX1_groups_11 : decode cX1_groups 11 = .ok (.istore_n 2, 1) := by decide +kernel
theorem dX1_groups_12 : decode cX1_groups 12 = .ok (.iconst 0, 1) := by decide +kernel
theorem dX1_groups_13 : decode cX1_groups 13 = .ok (.istore_n 3, 1) := by decide +kernel
theorem dX1_groups_14 : decode cX1_groups 14 = .ok (.iload_n 3, 1) := by decide +kernel
theorem dX1_groups_15 : decode cX1_groups 15 = .ok (.bipush 49, 2) := by decide +kernel
theorem dX1_groups_17 : decode cX1_groups 17 = .ok (.if_icmp .ge 41, 3) := by decide +kernel
theorem dX1_groups_20 : decode cX1_groups 20 = .ok (.aload_n 0, 1) := by decide +kernel
theorem dX1_groups_21 : decode cX1_groups 21 = .ok (.getfield 7, 3) := by decide +kernel
theorem dX1_groups_24 : decode cX1_groups 24 = .ok (.iload_n 3, 1) := by decide +kernel
theorem dX1_groups_25 : decode cX1_groups 25 = .ok (.iaload, 1) := by decide +kernel
theorem dX1_groups_26 : decode cX1_groups 26 = .ok (.iload_n 1, 1) := by decide +kernel
theorem dX1_groups_27 : decode cX1_groups 27 = .ok (.if_icmp .ne 25, 3) := by decide +kernel
theorem dX1_groups_30 : decode cX1_groups 30 = .ok (.aload_n 0, 1) := by decide +kernel
theorem dX1_groups_31 : decode cX1_groups 31 = .ok (.iload_n 3, 1) := by decide +kernel
theorem dX1_groups_32 : decode cX1_groups 32 = .ok (.invokevirtual 43, 3) := by decide +kernel
theorem dX1_groups_35 : decode cX1_groups 35 = .ok (.pop, 1) := by decide +kernel
theorem dX1_groups_36 : decode cX1_groups 36 = .ok (.aload_n 0, 1) := by decide +kernel
theorem dX1_groups_37 : decode cX1_groups 37 = .ok (.invokevirtual 80, 3) := by decide +kernel
theorem dX1_groups_40 : decode cX1_groups 40 = .ok (.iload_n 3, 1) := by decide +kernel
theorem dX1_groups_41 : decode cX1_groups 41 = .ok (.if_icmp .ne 9, 3) := by decide +kernel
theorem dX1_groups_44 : decode cX1_groups 44 = .ok (.iload_n 2, 1) := by decide +kernel
theorem dX1_groups_45 : decode cX1_groups 45 = .ok (.iconst 1, 1) := by decide +kernel
theorem dX1_groups_46 : decode cX1_groups 46 = .ok (.iadd, 1) := by decide +kernel
theorem dX1_groups_47 : decode cX1_groups 47 = .ok (.goto 4, 3) := by decide +kernel
theorem dX1_groups_50 : decode cX1_groups 50 = .ok (.iload_n 2, 1) := by decide +kernel
theorem dX1_groups_51 : decode cX1_groups 51 = .ok (.istore_n 2, 1) := by decide +kernel
theorem dX1_groups_52 : decode cX1_groups 52 = .ok (.iinc 3 1, 3) := by decide +kernel
theorem dX1_groups_55 : decode cX1_groups 55 = .ok (.goto (-41), 3) := by decide +kernel
theorem dX1_groups_58 : decode cX1_groups 58 = .ok (.iload_n 2, 1) := by decide +kernel
theorem dX1_groups_59 : decode cX1_groups 59 = .ok (.ireturn, 1) := by decide +kernel
theorem dX1_firstReached_0 : decode cX1_firstReached 0 = .ok (.bipush 48, 2) := by decide +kernel
theorem dX1_firstReached_2 : decode cX1_firstReached 2 = .ok (.istore_n 1, 1) := by decide +kernel
theorem dX1_firstReached_3 : decode cX1_firstReached 3 = .ok (.bipush 48, 2) := by decide +kernel
theorem dX1_firstReached_5 : decode cX1_firstReached 5 = .ok (.istore_n 2, 1) := by decide +kernel
theorem dX1_firstReached_6 : decode cX1_firstReached 6 = .ok (.iload_n 2, 1) := by decide +kernel
theorem dX1_firstReached_7 : decode cX1_firstReached 7 = .ok (.ifCond .lt 24, 3) := by decide +kernel
theorem dX1_firstReached_10 : decode cX1_firstReached 10 = .ok (.aload_n 0, 1) := by decide +kernel
theorem dX1_firstReached_11 : decode cX1_firstReached 11 = .ok (.getfield 25, 3) := by decide +kernel
theorem dX1_firstReached_14 : decode cX1_firstReached 14 = .ok (.iload_n 2, 1) := by decide +kernel
theorem dX1_firstReached_15 : decode cX1_firstReached 15 = .ok (.baload, 1) := by decide +kernel
theorem dX1_firstReached_16 : decode cX1_firstReached 16 = .ok (.ifCond .eq 7, 3) := by decide +kernel
theorem dX1_firstReached_19 : decode cX1_firstReached 19 = .ok (.iload_n 2, 1) := by decide +kernel
theorem dX1_firstReached_20 : decode cX1_firstReached 20 = .ok (.goto 4, 3) := by decide +kernel
theorem dX1_firstReached_23 : decode cX1_firstReached 23 = .ok (.iload_n 1, 1) := by decide +kernel
theorem dX1_firstReached_24 : decode cX1_firstReached 24 = .ok (.istore_n 1, 1) := by decide +kernel
theorem dX1_firstReached_25 : decode cX1_firstReached 25 = .ok (.iinc 2 (-1), 3) := by decide +kernel
theorem dX1_firstReached_28 : decode cX1_firstReached 28 = .ok (.goto (-22), 3) := by decide +kernel
theorem dX1_firstReached_31 : decode cX1_firstReached 31 = .ok (.iload_n 1, 1) := by decide +kernel
theorem dX1_firstReached_32 : decode cX1_firstReached 32 = .ok (.ireturn, 1) := by decide +kernel
theorem dX1_inAtari_0 : decode cX1_inAtari 0 = .ok (.aload_n 0, 1) := by decide +kernel
theorem dX1_inAtari_1 : decode cX1_inAtari 1 = .ok (.iload_n 1, 1) := by decide +kernel
theorem dX1_inAtari_2 : decode cX1_inAtari 2 = .ok (.invokevirtual 62, 3) := by decide +kernel
theorem dX1_inAtari_5 : decode cX1_inAtari 5 = .ok (.ifCond .ne 5, 3) := by decide +kernel
theorem dX1_inAtari_8 : decode cX1_inAtari 8 = .ok (.iconst (-1), 1) := by decide +kernel
theorem dX1_inAtari_9 : decode cX1_inAtari 9 = .ok (.ireturn, 1) := by decide +kernel
theorem dX1_inAtari_10 : decode cX1_inAtari 10 = .ok (.iconst 0, 1) := by decide +kernel
theorem dX1_inAtari_11 : decode cX1_inAtari 11 = .ok (.istore_n 2, 1) := by decide +kernel
theorem dX1_inAtari_12 : decode cX1_inAtari 12 = .ok (.iconst 0, 1) := by decide +kernel
theorem dX1_inAtari_13 : decode cX1_inAtari 13 = .ok (.istore_n 3, 1) := by decide +kernel
theorem dX1_inAtari_14 : decode cX1_inAtari 14 = .ok (.iload_n 3, 1) := by decide +kernel
theorem dX1_inAtari_15 : decode cX1_inAtari 15 = .ok (.bipush 49, 2) := by decide +kernel
theorem dX1_inAtari_17 : decode cX1_inAtari 17 = .ok (.if_icmp .ge 41, 3) := by decide +kernel
theorem dX1_inAtari_20 : decode cX1_inAtari 20 = .ok (.aload_n 0, 1) := by decide +kernel
theorem dX1_inAtari_21 : decode cX1_inAtari 21 = .ok (.getfield 7, 3) := by decide +kernel
theorem dX1_inAtari_24 : decode cX1_inAtari 24 = .ok (.iload_n 3, 1) := by decide +kernel
theorem dX1_inAtari_25 : decode cX1_inAtari 25 = .ok (.iaload, 1) := by decide +kernel
theorem dX1_inAtari_26 : decode cX1_inAtari 26 = .ok (.iload_n 1, 1) := by decide +kernel
theorem dX1_inAtari_27 : decode cX1_inAtari 27 = .ok (.if_icmp .ne 25, 3) := by decide +kernel
theorem dX1_inAtari_30 : decode cX1_inAtari 30 = .ok (.aload_n 0, 1) := by decide +kernel
theorem dX1_inAtari_31 : decode cX1_inAtari 31 = .ok (.iload_n 3, 1) := by decide +kernel
theorem dX1_inAtari_32 : decode cX1_inAtari 32 = .ok (.invokevirtual 43, 3) := by decide +kernel
theorem dX1_inAtari_35 : decode cX1_inAtari 35 = .ok (.pop, 1) := by decide +kernel
theorem dX1_inAtari_36 : decode cX1_inAtari 36 = .ok (.aload_n 0, 1) := by decide +kernel
theorem dX1_inAtari_37 : decode cX1_inAtari 37 = .ok (.invokevirtual 47, 3) := by decide +kernel
theorem dX1_inAtari_40 : decode cX1_inAtari 40 = .ok (.iconst 1, 1) := by decide +kernel
theorem dX1_inAtari_41 : decode cX1_inAtari 41 = .ok (.if_icmp .ne 9, 3) := by decide +kernel
theorem dX1_inAtari_44 : decode cX1_inAtari 44 = .ok (.iload_n 2, 1) := by decide +kernel
theorem dX1_inAtari_45 : decode cX1_inAtari 45 = .ok (.iconst 1, 1) := by decide +kernel
theorem dX1_inAtari_46 : decode cX1_inAtari 46 = .ok (.iadd, 1) := by decide +kernel
theorem dX1_inAtari_47 : decode cX1_inAtari 47 = .ok (.goto 4, 3) := by decide +kernel
theorem dX1_inAtari_50 : decode cX1_inAtari 50 = .ok (.iload_n 2, 1) := by decide +kernel
theorem dX1_inAtari_51 : decode cX1_inAtari 51 = .ok (.istore_n 2, 1) := by decide +kernel
theorem dX1_inAtari_52 : decode cX1_inAtari 52 = .ok (.iinc 3 1, 3) := by decide +kernel
theorem dX1_inAtari_55 : decode cX1_inAtari 55 = .ok (.goto (-41), 3) := by decide +kernel
theorem dX1_inAtari_58 : decode cX1_inAtari 58 = .ok (.iload_n 2, 1) := by decide +kernel
theorem dX1_inAtari_59 : decode cX1_inAtari 59 = .ok (.ireturn, 1) := by decide +kernel
theorem dX1_score_0 : decode cX1_score 0 = .ok (.aload_n 0, 1) := by decide +kernel
theorem dX1_score_1 : decode cX1_score 1 = .ok (.iload_n 1, 1) := by decide +kernel
theorem dX1_score_2 : decode cX1_score 2 = .ok (.invokevirtual 62, 3) := by decide +kernel
theorem dX1_score_5 : decode cX1_score 5 = .ok (.ifCond .ne 5, 3) := by decide +kernel
theorem dX1_score_8 : decode cX1_score 8 = .ok (.iconst (-1), 1) := by decide +kernel
theorem dX1_score_9 : decode cX1_score 9 = .ok (.ireturn, 1) := by decide +kernel
theorem dX1_score_10 : decode cX1_score 10 = .ok (.iconst 0, 1) := by decide +kernel
theorem dX1_score_11 : decode cX1_score 11 = .ok (.istore_n 2, 1) := by decide +kernel
theorem dX1_score_12 : decode cX1_score 12 = .ok (.iconst 0, 1) := by decide +kernel
theorem dX1_score_13 : decode cX1_score 13 = .ok (.istore_n 3, 1) := by decide +kernel
theorem dX1_score_14 : decode cX1_score 14 = .ok (.iload_n 3, 1) := by decide +kernel
theorem dX1_score_15 : decode cX1_score 15 = .ok (.bipush 49, 2) := by decide +kernel
theorem dX1_score_17 : decode cX1_score 17 = .ok (.if_icmp .ge 64, 3) := by decide +kernel
theorem dX1_score_20 : decode cX1_score 20 = .ok (.aload_n 0, 1) := by decide +kernel
theorem dX1_score_21 : decode cX1_score 21 = .ok (.getfield 7, 3) := by decide +kernel
theorem dX1_score_24 : decode cX1_score 24 = .ok (.iload_n 3, 1) := by decide +kernel
theorem dX1_score_25 : decode cX1_score 25 = .ok (.iaload, 1) := by decide +kernel
theorem dX1_score_26 : decode cX1_score 26 = .ok (.iload_n 1, 1) := by decide +kernel
theorem dX1_score_27 : decode cX1_score 27 = .ok (.if_icmp .ne 6, 3) := by decide +kernel
theorem dX1_score_30 : decode cX1_score 30 = .ok (.iinc 2 1, 3) := by decide +kernel
theorem dX1_score_33 : decode cX1_score 33 = .ok (.aload_n 0, 1) := by decide +kernel
theorem dX1_score_34 : decode cX1_score 34 = .ok (.getfield 7, 3) := by decide +kernel
theorem dX1_score_37 : decode cX1_score 37 = .ok (.iload_n 3, 1) := by decide +kernel
theorem dX1_score_38 : decode cX1_score 38 = .ok (.iaload, 1) := by decide +kernel
theorem dX1_score_39 : decode cX1_score 39 = .ok (.iconst 2, 1) := by decide +kernel
theorem dX1_score_40 : decode cX1_score 40 = .ok (.if_icmp .ne 35, 3) := by decide +kernel
theorem dX1_score_43 : decode cX1_score 43 = .ok (.aload_n 0, 1) := by decide +kernel
theorem dX1_score_44 : decode cX1_score 44 = .ok (.iload_n 3, 1) := by decide +kernel
theorem dX1_score_45 : decode cX1_score 45 = .ok (.invokevirtual 43, 3) := by decide +kernel
theorem dX1_score_48 : decode cX1_score 48 = .ok (.pop, 1) := by decide +kernel
theorem dX1_score_49 : decode cX1_score 49 = .ok (.aload_n 0, 1) := by decide +kernel
theorem dX1_score_50 : decode cX1_score 50 = .ok (.iload_n 1, 1) := by decide +kernel
theorem dX1_score_51 : decode cX1_score 51 = .ok (.invokevirtual 83, 3) := by decide +kernel
theorem dX1_score_54 : decode cX1_score 54 = .ok (.ifCond .eq 19, 3) := by decide +kernel
theorem dX1_score_57 : decode cX1_score 57 = .ok (.aload_n 0, 1) := by decide +kernel
theorem dX1_score_58 : decode cX1_score 58 = .ok (.iconst 1, 1) := by decide +kernel
theorem dX1_score_59 : decode cX1_score 59 = .ok (.iload_n 1, 1) := by decide +kernel
theorem dX1_score_60 : decode cX1_score 60 = .ok (.isub, 1) := by decide +kernel
theorem dX1_score_61 : decode cX1_score 61 = .ok (.invokevirtual 83, 3) := by decide +kernel
theorem dX1_score_64 : decode cX1_score 64 = .ok (.ifCond .ne 9, 3) := by decide +kernel
theorem dX1_score_67 : decode cX1_score 67 = .ok (.iload_n 2, 1) := by decide +kernel
theorem dX1_score_68 : decode cX1_score 68 = .ok (.iconst 1, 1) := by decide +kernel
theorem dX1_score_69 : decode cX1_score 69 = .ok (.iadd, 1) := by decide +kernel
theorem dX1_score_70 : decode cX1_score 70 = .ok (.goto 4, 3) := by decide +kernel
theorem dX1_score_73 : decode cX1_score 73 = .ok (.iload_n 2, 1) := by decide +kernel
theorem dX1_score_74 : decode cX1_score 74 = .ok (.istore_n 2, 1) := by decide +kernel
theorem dX1_score_75 : decode cX1_score 75 = .ok (.iinc 3 1, 3) := by decide +kernel
theorem dX1_score_78 : decode cX1_score 78 = .ok (.goto (-64), 3) := by decide +kernel
theorem dX1_score_81 : decode cX1_score 81 = .ok (.iload_n 2, 1) := by decide +kernel
theorem dX1_score_82 : decode cX1_score 82 = .ok (.ireturn, 1) := by decide +kernel
theorem dX1_touches_0 : decode cX1_touches 0 = .ok (.iconst 0, 1) := by decide +kernel
theorem dX1_touches_1 : decode cX1_touches 1 = .ok (.istore_n 2, 1) := by decide +kernel
theorem dX1_touches_2 : decode cX1_touches 2 = .ok (.iload_n 2, 1) := by decide +kernel
theorem dX1_touches_3 : decode cX1_touches 3 = .ok (.bipush 49, 2) := by decide +kernel
theorem dX1_touches_5 : decode cX1_touches 5 = .ok (.if_icmp .ge 30, 3) := by decide +kernel
theorem dX1_touches_8 : decode cX1_touches 8 = .ok (.aload_n 0, 1) := by decide +kernel
theorem dX1_touches_9 : decode cX1_touches 9 = .ok (.getfield 25, 3) := by decide +kernel
theorem dX1_touches_12 : decode cX1_touches 12 = .ok (.iload_n 2, 1) := by decide +kernel
theorem dX1_touches_13 : decode cX1_touches 13 = .ok (.baload, 1) := by decide +kernel
theorem dX1_touches_14 : decode cX1_touches 14 = .ok (.ifCond .eq 15, 3) := by decide +kernel
theorem dX1_touches_17 : decode cX1_touches 17 = .ok (.aload_n 0, 1) := by decide +kernel
theorem dX1_touches_18 : decode cX1_touches 18 = .ok (.iload_n 2, 1) := by decide +kernel
theorem dX1_touches_19 : decode cX1_touches 19 = .ok (.iload_n 1, 1) := by decide +kernel
theorem dX1_touches_20 : decode cX1_touches 20 = .ok (.iconst 0, 1) := by decide +kernel
theorem dX1_touches_21 : decode cX1_touches 21 = .ok (.invokevirtual 39, 3) := by decide +kernel
theorem dX1_touches_24 : decode cX1_touches 24 = .ok (.ifCond .eq 5, 3) := by decide +kernel
theorem dX1_touches_27 : decode cX1_touches 27 = .ok (.iconst 1, 1) := by decide +kernel
theorem dX1_touches_28 : decode cX1_touches 28 = .ok (.ireturn, 1) := by decide +kernel
theorem dX1_touches_29 : decode cX1_touches 29 = .ok (.iinc 2 1, 3) := by decide +kernel
theorem dX1_touches_32 : decode cX1_touches 32 = .ok (.goto (-30), 3) := by decide +kernel
theorem dX1_touches_35 : decode cX1_touches 35 = .ok (.iconst 0, 1) := by decide +kernel
theorem dX1_touches_36 : decode cX1_touches 36 = .ok (.ireturn, 1) := by decide +kernel
theorem dX1_region_0 : decode cX1_region 0 = .ok (.aload_n 0, 1) := by decide +kernel
theorem dX1_region_1 : decode cX1_region 1 = .ok (.iload_n 1, 1) := by decide +kernel
theorem dX1_region_2 : decode cX1_region 2 = .ok (.invokevirtual 65, 3) := by decide +kernel
theorem dX1_region_5 : decode cX1_region 5 = .ok (.ifCond .ne 5, 3) := by decide +kernel
theorem dX1_region_8 : decode cX1_region 8 = .ok (.iconst (-1), 1) := by decide +kernel
theorem dX1_region_9 : decode cX1_region 9 = .ok (.ireturn, 1) := by decide +kernel
theorem dX1_region_10 : decode cX1_region 10 = .ok (.aload_n 0, 1) := by decide +kernel
theorem dX1_region_11 : decode cX1_region 11 = .ok (.getfield 7, 3) := by decide +kernel
theorem dX1_region_14 : decode cX1_region 14 = .ok (.iload_n 1, 1) := by decide +kernel
theorem dX1_region_15 : decode cX1_region 15 = .ok (.iaload, 1) := by decide +kernel
theorem dX1_region_16 : decode cX1_region 16 = .ok (.iconst 2, 1) := by decide +kernel
theorem dX1_region_17 : decode cX1_region 17 = .ok (.if_icmp .ne 11, 3) := by decide +kernel
theorem dX1_region_20 : decode cX1_region 20 = .ok (.aload_n 0, 1) := by decide +kernel
theorem dX1_region_21 : decode cX1_region 21 = .ok (.iload_n 1, 1) := by decide +kernel
theorem dX1_region_22 : decode cX1_region 22 = .ok (.invokevirtual 43, 3) := by decide +kernel
theorem dX1_region_25 : decode cX1_region 25 = .ok (.goto 5, 3) := by decide +kernel
theorem dX1_region_28 : decode cX1_region 28 = .ok (.bipush (-2), 2) := by decide +kernel
theorem dX1_region_30 : decode cX1_region 30 = .ok (.ireturn, 1) := by decide +kernel
theorem dX1_done_0 : decode cX1_done 0 = .ok (.aload_n 0, 1) := by decide +kernel
theorem dX1_done_1 : decode cX1_done 1 = .ok (.getfield 54, 3) := by decide +kernel
theorem dX1_done_4 : decode cX1_done 4 = .ok (.ireturn, 1) := by decide +kernel
end
section
theorem q77 : (Jvm.Cond.arrayClass Jvm.ClassFile.FieldType.long) ∈ lw_all := lw_g (lw_at lw_m1 52 rfl) rfl
set_option maxRecDepth 100000
theorem q78 : (Jvm.Cond.arrayClass Jvm.ClassFile.FieldType.int) ∈ lw_all := lw_g (lw_at lw_m1 53 rfl) rfl
theorem q222 : (Jvm.Cond.arrayClass Jvm.ClassFile.FieldType.boolean) ∈ lw_all := lw_g (lw_at lw_m1 197 rfl) rfl
theorem q25 : (Jvm.Cond.initialized "GoBoardLaw") ∈ lw_all := lw_g (lw_at lw_m1 0 rfl) rfl
theorem q28 : (Jvm.Cond.classLink "GoBoardLaw" (7 : Nat) "GoBoard") ∈ lw_all := lw_g (lw_at lw_m1 3 rfl) rfl
theorem q30 : (Jvm.Cond.methodLink "GoBoardLaw" (9 : Nat) ({ cls := "GoBoard", name := "<init>", desc := "()V" } : Jvm.MethodName)) ∈ lw_all := lw_g (lw_at lw_m1 5 rfl) rfl
theorem q79 : (Jvm.Cond.methodLink "GoBoardLaw" (13 : Nat) ({ cls := "GoBoard", name := "play", desc := "(II)I" } : Jvm.MethodName)) ∈ lw_all := lw_g (lw_at lw_m1 54 rfl) rfl
theorem q119 : (Jvm.Cond.methodLink "GoBoardLaw" (18 : Nat) ({ cls := "GoBoard", name := "pass", desc := "()I" } : Jvm.MethodName)) ∈ lw_all := lw_g (lw_at lw_m1 94 rfl) rfl
theorem q123 : (Jvm.Cond.methodLink "GoBoardLaw" (23 : Nat) ({ cls := "GoBoard", name := "undo", desc := "()I" } : Jvm.MethodName)) ∈ lw_all := lw_g (lw_at lw_m1 98 rfl) rfl
theorem q127 : (Jvm.Cond.methodLink "GoBoardLaw" (27 : Nat) ({ cls := "GoBoard", name := "set", desc := "(II)I" } : Jvm.MethodName)) ∈ lw_all := lw_g (lw_at lw_m1 102 rfl) rfl
theorem q131 : (Jvm.Cond.methodLink "GoBoardLaw" (31 : Nat) ({ cls := "GoBoard", name := "at", desc := "(I)I" } : Jvm.MethodName)) ∈ lw_all := lw_g (lw_at lw_m1 106 rfl) rfl
theorem q135 : (Jvm.Cond.methodLink "GoBoardLaw" (36 : Nat) ({ cls := "GoBoard", name := "captured", desc := "(I)I" } : Jvm.MethodName)) ∈ lw_all := lw_g (lw_at lw_m1 110 rfl) rfl
theorem q139 : (Jvm.Cond.methodLink "GoBoardLaw" (40 : Nat) ({ cls := "GoBoard", name := "groupSize", desc := "(I)I" } : Jvm.MethodName)) ∈ lw_all := lw_g (lw_at lw_m1 114 rfl) rfl
theorem q148 : (Jvm.Cond.methodLink "GoBoardLaw" (44 : Nat) ({ cls := "GoBoard", name := "liberties", desc := "(I)I" } : Jvm.MethodName)) ∈ lw_all := lw_g (lw_at lw_m1 123 rfl) rfl
theorem q156 : (Jvm.Cond.methodLink "GoBoardLaw" (48 : Nat) ({ cls := "GoBoard", name := "trial", desc := "(II)I" } : Jvm.MethodName)) ∈ lw_all := lw_g (lw_at lw_m1 131 rfl) rfl
theorem q160 : (Jvm.Cond.methodLink "GoBoardLaw" (52 : Nat) ({ cls := "GoBoard", name := "moves", desc := "(I)I" } : Jvm.MethodName)) ∈ lw_all := lw_g (lw_at lw_m1 135 rfl) rfl
theorem q164 : (Jvm.Cond.methodLink "GoBoardLaw" (56 : Nat) ({ cls := "GoBoard", name := "groups", desc := "(I)I" } : Jvm.MethodName)) ∈ lw_all := lw_g (lw_at lw_m1 139 rfl) rfl
theorem q172 : (Jvm.Cond.methodLink "GoBoardLaw" (60 : Nat) ({ cls := "GoBoard", name := "inAtari", desc := "(I)I" } : Jvm.MethodName)) ∈ lw_all := lw_g (lw_at lw_m1 147 rfl) rfl
theorem q176 : (Jvm.Cond.methodLink "GoBoardLaw" (64 : Nat) ({ cls := "GoBoard", name := "score", desc := "(I)I" } : Jvm.MethodName)) ∈ lw_all := lw_g (lw_at lw_m1 151 rfl) rfl
theorem q180 : (Jvm.Cond.methodLink "GoBoardLaw" (68 : Nat) ({ cls := "GoBoard", name := "region", desc := "(I)I" } : Jvm.MethodName)) ∈ lw_all := lw_g (lw_at lw_m1 155 rfl) rfl
theorem q184 : (Jvm.Cond.methodLink "GoBoardLaw" (72 : Nat) ({ cls := "GoBoard", name := "done", desc := "()I" } : Jvm.MethodName)) ∈ lw_all := lw_g (lw_at lw_m1 159 rfl) rfl
theorem q188 : (Jvm.Cond.classLink "GoBoardLaw" (10 : Nat) "GoBoardModel") ∈ lw_all := lw_g (lw_at lw_m1 163 rfl) rfl
theorem q190 : (Jvm.Cond.methodLink "GoBoardLaw" (12 : Nat) ({ cls := "GoBoardModel", name := "<init>", desc := "()V" } : Jvm.MethodName)) ∈ lw_all := lw_g (lw_at lw_m1 165 rfl) rfl
theorem q223 : (Jvm.Cond.methodLink "GoBoardLaw" (17 : Nat) ({ cls := "GoBoardModel", name := "play", desc := "(II)I" } : Jvm.MethodName)) ∈ lw_all := lw_g (lw_at lw_m1 198 rfl) rfl
theorem q271 : (Jvm.Cond.methodLink "GoBoardLaw" (22 : Nat) ({ cls := "GoBoardModel", name := "pass", desc := "()I" } : Jvm.MethodName)) ∈ lw_all := lw_g (lw_at lw_m2 6 rfl) rfl
theorem q275 : (Jvm.Cond.methodLink "GoBoardLaw" (26 : Nat) ({ cls := "GoBoardModel", name := "undo", desc := "()I" } : Jvm.MethodName)) ∈ lw_all := lw_g (lw_at lw_m2 10 rfl) rfl
theorem q279 : (Jvm.Cond.methodLink "GoBoardLaw" (30 : Nat) ({ cls := "GoBoardModel", name := "set", desc := "(II)I" } : Jvm.MethodName)) ∈ lw_all := lw_g (lw_at lw_m2 14 rfl) rfl
theorem q283 : (Jvm.Cond.methodLink "GoBoardLaw" (35 : Nat) ({ cls := "GoBoardModel", name := "at", desc := "(I)I" } : Jvm.MethodName)) ∈ lw_all := lw_g (lw_at lw_m2 18 rfl) rfl
theorem q287 : (Jvm.Cond.methodLink "GoBoardLaw" (39 : Nat) ({ cls := "GoBoardModel", name := "captured", desc := "(I)I" } : Jvm.MethodName)) ∈ lw_all := lw_g (lw_at lw_m2 22 rfl) rfl
theorem q291 : (Jvm.Cond.methodLink "GoBoardLaw" (43 : Nat) ({ cls := "GoBoardModel", name := "groupSize", desc := "(I)I" } : Jvm.MethodName)) ∈ lw_all := lw_g (lw_at lw_m2 26 rfl) rfl
theorem q295 : (Jvm.Cond.methodLink "GoBoardLaw" (47 : Nat) ({ cls := "GoBoardModel", name := "liberties", desc := "(I)I" } : Jvm.MethodName)) ∈ lw_all := lw_g (lw_at lw_m2 30 rfl) rfl
theorem q299 : (Jvm.Cond.methodLink "GoBoardLaw" (51 : Nat) ({ cls := "GoBoardModel", name := "trial", desc := "(II)I" } : Jvm.MethodName)) ∈ lw_all := lw_g (lw_at lw_m2 34 rfl) rfl
theorem q303 : (Jvm.Cond.methodLink "GoBoardLaw" (55 : Nat) ({ cls := "GoBoardModel", name := "moves", desc := "(I)I" } : Jvm.MethodName)) ∈ lw_all := lw_g (lw_at lw_m2 38 rfl) rfl
theorem q308 : (Jvm.Cond.methodLink "GoBoardLaw" (59 : Nat) ({ cls := "GoBoardModel", name := "groups", desc := "(I)I" } : Jvm.MethodName)) ∈ lw_all := lw_g (lw_at lw_m2 43 rfl) rfl
theorem q316 : (Jvm.Cond.methodLink "GoBoardLaw" (63 : Nat) ({ cls := "GoBoardModel", name := "inAtari", desc := "(I)I" } : Jvm.MethodName)) ∈ lw_all := lw_g (lw_at lw_m2 51 rfl) rfl
theorem q320 : (Jvm.Cond.methodLink "GoBoardLaw" (67 : Nat) ({ cls := "GoBoardModel", name := "score", desc := "(I)I" } : Jvm.MethodName)) ∈ lw_all := lw_g (lw_at lw_m2 55 rfl) rfl
theorem q328 : (Jvm.Cond.methodLink "GoBoardLaw" (71 : Nat) ({ cls := "GoBoardModel", name := "region", desc := "(I)I" } : Jvm.MethodName)) ∈ lw_all := lw_g (lw_at lw_m2 63 rfl) rfl
theorem q332 : (Jvm.Cond.methodLink "GoBoardLaw" (75 : Nat) ({ cls := "GoBoardModel", name := "done", desc := "()I" } : Jvm.MethodName)) ∈ lw_all := lw_g (lw_at lw_m2 67 rfl) rfl
/-! java/lang/Object -/
def RJ0 : String := "java/lang/Object"
abbrev cJ0_init : ByteArray := object_method_1_code
def yJ0_init : MethodName := ⟨RJ0, "<init>", "()V"⟩
theorem dJ0_init_0 : decode cJ0_init 0 = .ok (.return_, 1) := by decide +kernel
theorem q34 : (Jvm.Cond.instanceMethod ({ cls := "java/lang/Object", name := "<init>", desc := "()V" } : Jvm.MethodName)) ∈ lw_all := lw_g (lw_at lw_m1 9 rfl) rfl
theorem q35 : (Jvm.Cond.code ({ cls := "java/lang/Object", name := "<init>", desc := "()V" } : Jvm.MethodName) object_method_1_code (1 : Nat) (Option.none : Option Jvm.ClassFile.FieldType)) ∈ lw_all := lw_g (lw_at lw_m1 10 rfl) rfl
/-! the law's own entry -/
abbrev cL_law : ByteArray := code
theorem dL_law_0 : decode cL_law 0 = .ok (.new 7, 3) := by decide +kernel
theorem dL_law_3 : decode cL_law 3 = .ok (.dup, 1) := by decide +kernel
theorem dL_law_4 : decode cL_law 4 = .ok (.invokespecial 9, 3) := by decide +kernel
theorem dL_law_7 : decode cL_law 7 = .ok (.astore_n 1, 1) := by decide +kernel
theorem dL_law_8 : decode cL_law 8 = .ok (.new 10, 3) := by decide +kernel
theorem dL_law_11 : decode cL_law 11 = .ok (.dup, 1) := by decide +kernel
theorem dL_law_12 : decode cL_law 12 = .ok (.invokespecial 12, 3) := by decide +kernel
theorem dL_law_15 : decode cL_law 15 = .ok (.astore_n 2, 1) := by decide +kernel
theorem dL_law_16 : decode cL_law 16 = .ok (.iconst 0, 1) := by decide +kernel
theorem dL_law_17 : decode cL_law 17 = .ok (.istore_n 3, 1) := by decide +kernel
theorem dL_law_18 : decode cL_law 18 = .ok (.iload_n 3, 1) := by decide +kernel
theorem dL_law_19 : decode cL_law 19 = .ok (.aload_n 0, 1) := by decide +kernel
theorem dL_law_20 : decode cL_law 20 = .ok (.arraylength, 1) := by decide +kernel
theorem dL_law_21 : decode cL_law 21 = .ok (.iconst 3, 1) := by decide +kernel
theorem dL_law_22 : decode cL_law 22 = .ok (.isub, 1) := by decide +kernel
theorem dL_law_23 : decode cL_law 23 = .ok (.if_icmp .gt 436, 3) := by decide +kernel
theorem dL_law_26 : decode cL_law 26 = .ok (.aload_n 0, 1) := by decide +kernel
theorem dL_law_27 : decode cL_law 27 = .ok (.iload_n 3, 1) := by decide +kernel
theorem dL_law_28 : decode cL_law 28 = .ok (.iaload, 1) := by decide +kernel
theorem dL_law_29 : decode cL_law 29 = .ok (.bipush 15, 2) := by decide +kernel
theorem dL_law_31 : decode cL_law 31 = .ok (.iand, 1) := by decide +kernel
theorem dL_law_32 : decode cL_law 32 = .ok (.tableswitch 421 0 14 #[76, 109, 122, 135, 168, 191, 214, 237, 260, 293, 316, 339, 362, 385, 408], 76) := by decide +kernel
theorem dL_law_108 : decode cL_law 108 = .ok (.aload_n 1, 1) := by decide +kernel
theorem dL_law_109 : decode cL_law 109 = .ok (.aload_n 0, 1) := by decide +kernel
theorem dL_law_110 : decode cL_law 110 = .ok (.iload_n 3, 1) := by decide +kernel
theorem dL_law_111 : decode cL_law 111 = .ok (.iconst 1, 1) := by decide +kernel
theorem dL_law_112 : decode cL_law 112 = .ok (.iadd, 1) := by decide +kernel
theorem dL_law_113 : decode cL_law 113 = .ok (.iaload, 1) := by decide +kernel
theorem dL_law_114 : decode cL_law 114 = .ok (.aload_n 0, 1) := by decide +kernel
theorem dL_law_115 : decode cL_law 115 = .ok (.iload_n 3, 1) := by decide +kernel
theorem dL_law_116 : decode cL_law 116 = .ok (.iconst 2, 1) := by decide +kernel
theorem dL_law_117 : decode cL_law 117 = .ok (.iadd, 1) := by decide +kernel
theorem dL_law_118 : decode cL_law 118 = .ok (.iaload, 1) := by decide +kernel
theorem dL_law_119 : decode cL_law 119 = .ok (.invokevirtual 13, 3) := by decide +kernel
theorem dL_law_122 : decode cL_law 122 = .ok (.aload_n 2, 1) := by decide +kernel
theorem dL_law_123 : decode cL_law 123 = .ok (.aload_n 0, 1) := by decide +kernel
theorem dL_law_124 : decode cL_law 124 = .ok (.iload_n 3, 1) := by decide +kernel
theorem dL_law_125 : decode cL_law 125 = .ok (.iconst 1, 1) := by decide +kernel
theorem dL_law_126 : decode cL_law 126 = .ok (.iadd, 1) := by decide +kernel
theorem dL_law_127 : decode cL_law 127 = .ok (.iaload, 1) := by decide +kernel
theorem dL_law_128 : decode cL_law 128 = .ok (.aload_n 0, 1) := by decide +kernel
theorem dL_law_129 : decode cL_law 129 = .ok (.iload_n 3, 1) := by decide +kernel
theorem dL_law_130 : decode cL_law 130 = .ok (.iconst 2, 1) := by decide +kernel
theorem dL_law_131 : decode cL_law 131 = .ok (.iadd, 1) := by decide +kernel
theorem dL_law_132 : decode cL_law 132 = .ok (.iaload, 1) := by decide +kernel
theorem dL_law_133 : decode cL_law 133 = .ok (.invokevirtual 17, 3) := by decide +kernel
theorem dL_law_136 : decode cL_law 136 = .ok (.if_icmp .eq 317, 3) := by decide +kernel
theorem dL_law_139 : decode cL_law 139 = .ok (.iconst 0, 1) := by decide +kernel
theorem dL_law_140 : decode cL_law 140 = .ok (.ireturn, 1) := by decide +kernel
theorem dL_law_141 : decode cL_law 141 = .ok (.aload_n 1, 1) := by decide +kernel
theorem dL_law_142 : decode cL_law 142 = .ok (.invokevirtual 18, 3) := by decide +kernel
theorem dL_law_145 : decode cL_law 145 = .ok (.aload_n 2, 1) := by decide +kernel
theorem dL_law_146 : decode cL_law 146 = .ok (.invokevirtual 22, 3) := by decide +kernel
theorem dL_law_149 : decode cL_law 149 = .ok (.if_icmp .eq 304, 3) := by decide +kernel
theorem dL_law_152 : decode cL_law 152 = .ok (.iconst 0, 1) := by decide +kernel
theorem dL_law_153 : decode cL_law 153 = .ok (.ireturn, 1) := by decide +kernel
theorem dL_law_154 : decode cL_law 154 = .ok (.aload_n 1, 1) := by decide +kernel
theorem dL_law_155 : decode cL_law 155 = .ok (.invokevirtual 23, 3) := by decide +kernel
theorem dL_law_158 : decode cL_law 158 = .ok (.aload_n 2, 1) := by decide +kernel
theorem dL_law_159 : decode cL_law 159 = .ok (.invokevirtual 26, 3) := by decide +kernel
theorem dL_law_162 : decode cL_law 162 = .ok (.if_icmp .eq 291, 3) := by decide +kernel
theorem dL_law_165 : decode cL_law 165 = .ok (.iconst 0, 1) := by decide +kernel
theorem dL_law_166 : decode cL_law 166 = .ok (.ireturn, 1) := by decide +kernel
theorem dL_law_167 : decode cL_law 167 = .ok (.aload_n 1, 1) := by decide +kernel
theorem dL_law_168 : decode cL_law 168 = .ok (.aload_n 0, 1) := by decide +kernel
theorem dL_law_169 : decode cL_law 169 = .ok (.iload_n 3, 1) := by decide +kernel
theorem dL_law_170 : decode cL_law 170 = .ok (.iconst 1, 1) := by decide +kernel
theorem dL_law_171 : decode cL_law 171 = .ok (.iadd, 1) := by decide +kernel
theorem dL_law_172 : decode cL_law 172 = .ok (.iaload, 1) := by decide +kernel
theorem dL_law_173 : decode cL_law 173 = .ok (.aload_n 0, 1) := by decide +kernel
theorem dL_law_174 : decode cL_law 174 = .ok (.iload_n 3, 1) := by decide +kernel
theorem dL_law_175 : decode cL_law 175 = .ok (.iconst 2, 1) := by decide +kernel
theorem dL_law_176 : decode cL_law 176 = .ok (.iadd, 1) := by decide +kernel
theorem dL_law_177 : decode cL_law 177 = .ok (.iaload, 1) := by decide +kernel
theorem dL_law_178 : decode cL_law 178 = .ok (.invokevirtual 27, 3) := by decide +kernel
theorem dL_law_181 : decode cL_law 181 = .ok (.aload_n 2, 1) := by decide +kernel
theorem dL_law_182 : decode cL_law 182 = .ok (.aload_n 0, 1) := by decide +kernel
theorem dL_law_183 : decode cL_law 183 = .ok (.iload_n 3, 1) := by decide +kernel
theorem dL_law_184 : decode cL_law 184 = .ok (.iconst 1, 1) := by decide +kernel
theorem dL_law_185 : decode cL_law 185 = .ok (.iadd, 1) := by decide +kernel
theorem dL_law_186 : decode cL_law 186 = .ok (.iaload, 1) := by decide +kernel
theorem dL_law_187 : decode cL_law 187 = .ok (.aload_n 0, 1) := by decide +kernel
theorem dL_law_188 : decode cL_law 188 = .ok (.iload_n 3, 1) := by decide +kernel
theorem dL_law_189 : decode cL_law 189 = .ok (.iconst 2, 1) := by decide +kernel
theorem dL_law_190 : decode cL_law 190 = .ok (.iadd, 1) := by decide +kernel
theorem dL_law_191 : decode cL_law 191 = .ok (.iaload, 1) := by decide +kernel
theorem dL_law_192 : decode cL_law 192 = .ok (.invokevirtual 30, 3) := by decide +kernel
theorem dL_law_195 : decode cL_law 195 = .ok (.if_icmp .eq 258, 3) := by decide +kernel
theorem dL_law_198 : decode cL_law 198 = .ok (.iconst 0, 1) := by decide +kernel
theorem dL_law_199 : decode cL_law 199 = .ok (.ireturn, 1) := by decide +kernel
theorem dL_law_200 : decode cL_law 200 = .ok (.aload_n 1, 1) := by decide +kernel
theorem dL_law_201 : decode cL_law 201 = .ok (.aload_n 0, 1) := by decide +kernel
theorem dL_law_202 : decode cL_law 202 = .ok (.iload_n 3, 1) := by decide +kernel
theorem dL_law_203 : decode cL_law 203 = .ok (.iconst 1, 1) := by decide +kernel
theorem dL_law_204 : decode cL_law 204 = .ok (.iadd, 1) := by decide +kernel
theorem dL_law_205 : decode cL_law 205 = .ok (.iaload, 1) := by decide +kernel
theorem dL_law_206 : decode cL_law 206 = .ok (.invokevirtual 31, 3) := by decide +kernel
theorem dL_law_209 : decode cL_law 209 = .ok (.aload_n 2, 1) := by decide +kernel
theorem dL_law_210 : decode cL_law 210 = .ok (.aload_n 0, 1) := by decide +kernel
theorem dL_law_211 : decode cL_law 211 = .ok (.iload_n 3, 1) := by decide +kernel
theorem dL_law_212 : decode cL_law 212 = .ok (.iconst 1, 1) := by decide +kernel
theorem dL_law_213 : decode cL_law 213 = .ok (.iadd, 1) := by decide +kernel
theorem dL_law_214 : decode cL_law 214 = .ok (.iaload, 1) := by decide +kernel
theorem dL_law_215 : decode cL_law 215 = .ok (.invokevirtual 35, 3) := by decide +kernel
theorem dL_law_218 : decode cL_law 218 = .ok (.if_icmp .eq 235, 3) := by decide +kernel
theorem dL_law_221 : decode cL_law 221 = .ok (.iconst 0, 1) := by decide +kernel
theorem dL_law_222 : decode cL_law 222 = .ok (.ireturn, 1) := by decide +kernel
theorem dL_law_223 : decode cL_law 223 = .ok (.aload_n 1, 1) := by decide +kernel
theorem dL_law_224 : decode cL_law 224 = .ok (.aload_n 0, 1) := by decide +kernel
theorem dL_law_225 : decode cL_law 225 = .ok (.iload_n 3, 1) := by decide +kernel
theorem dL_law_226 : decode cL_law 226 = .ok (.iconst 1, 1) := by decide +kernel
theorem dL_law_227 : decode cL_law 227 = .ok (.iadd, 1) := by decide +kernel
theorem dL_law_228 : decode cL_law 228 = .ok (.iaload, 1) := by decide +kernel
theorem dL_law_229 : decode cL_law 229 = .ok (.invokevirtual 36, 3) := by decide +kernel
theorem dL_law_232 : decode cL_law 232 = .ok (.aload_n 2, 1) := by decide +kernel
theorem dL_law_233 : decode cL_law 233 = .ok (.aload_n 0, 1) := by decide +kernel
theorem dL_law_234 : decode cL_law 234 = .ok (.iload_n 3, 1) := by decide +kernel
theorem dL_law_235 : decode cL_law 235 = .ok (.iconst 1, 1) := by decide +kernel
theorem dL_law_236 : decode cL_law 236 = .ok (.iadd, 1) := by decide +kernel
theorem dL_law_237 : decode cL_law 237 = .ok (.iaload, 1) := by decide +kernel
theorem dL_law_238 : decode cL_law 238 = .ok (.invokevirtual 39, 3) := by decide +kernel
theorem dL_law_241 : decode cL_law 241 = .ok (.if_icmp .eq 212, 3) := by decide +kernel
theorem dL_law_244 : decode cL_law 244 = .ok (.iconst 0, 1) := by decide +kernel
theorem dL_law_245 : decode cL_law 245 = .ok (.ireturn, 1) := by decide +kernel
theorem dL_law_246 : decode cL_law 246 = .ok (.aload_n 1, 1) := by decide +kernel
theorem dL_law_247 : decode cL_law 247 = .ok (.aload_n 0, 1) := by decide +kernel
theorem dL_law_248 : decode cL_law 248 = .ok (.iload_n 3, 1) := by decide +kernel
theorem dL_law_249 : decode cL_law 249 = .ok (.iconst 1, 1) := by decide +kernel
theorem dL_law_250 : decode cL_law 250 = .ok (.iadd, 1) := by decide +kernel
theorem dL_law_251 : decode cL_law 251 = .ok (.iaload, 1) := by decide +kernel
theorem dL_law_252 : decode cL_law 252 = .ok (.invokevirtual 40, 3) := by decide +kernel
theorem dL_law_255 : decode cL_law 255 = .ok (.aload_n 2, 1) := by decide +kernel
theorem dL_law_256 : decode cL_law 256 = .ok (.aload_n 0, 1) := by decide +kernel
theorem dL_law_257 : decode cL_law 257 = .ok (.iload_n 3, 1) := by decide +kernel
theorem dL_law_258 : decode cL_law 258 = .ok (.iconst 1, 1) := by decide +kernel
theorem dL_law_259 : decode cL_law 259 = .ok (.iadd, 1) := by decide +kernel
theorem dL_law_260 : decode cL_law 260 = .ok (.iaload, 1) := by decide +kernel
theorem dL_law_261 : decode cL_law 261 = .ok (.invokevirtual 43, 3) := by decide +kernel
theorem dL_law_264 : decode cL_law 264 = .ok (.if_icmp .eq 189, 3) := by decide +kernel
theorem dL_law_267 : decode cL_law 267 = .ok (.iconst 0, 1) := by decide +kernel
theorem dL_law_268 : decode cL_law 268 = .ok (.ireturn, 1) := by decide +kernel
theorem dL_law_269 : decode cL_law 269 = .ok (.aload_n 1, 1) := by decide +kernel
theorem dL_law_270 : decode cL_law 270 = .ok (.aload_n 0, 1) := by decide +kernel
theorem dL_law_271 : decode cL_law 271 = .ok (.iload_n 3, 1) := by decide +kernel
theorem dL_law_272 : decode cL_law 272 = .ok (.iconst 1, 1) := by decide +kernel
theorem dL_law_273 : decode cL_law 273 = .ok (.iadd, 1) := by decide +kernel
theorem dL_law_274 : decode cL_law 274 = .ok (.iaload, 1) := by decide +kernel
theorem dL_law_275 : decode cL_law 275 = .ok (.invokevirtual 44, 3) := by decide +kernel
theorem dL_law_278 : decode cL_law 278 = .ok (.aload_n 2, 1) := by decide +kernel
theorem dL_law_279 : decode cL_law 279 = .ok (.aload_n 0, 1) := by decide +kernel
theorem dL_law_280 : decode cL_law 280 = .ok (.iload_n 3, 1) := by decide +kernel
theorem dL_law_281 : decode cL_law 281 = .ok (.iconst 1, 1) := by decide +kernel
theorem dL_law_282 : decode cL_law 282 = .ok (.iadd, 1) := by decide +kernel
theorem dL_law_283 : decode cL_law 283 = .ok (.iaload, 1) := by decide +kernel
theorem dL_law_284 : decode cL_law 284 = .ok (.invokevirtual 47, 3) := by decide +kernel
theorem dL_law_287 : decode cL_law 287 = .ok (.if_icmp .eq 166, 3) := by decide +kernel
theorem dL_law_290 : decode cL_law 290 = .ok (.iconst 0, 1) := by decide +kernel
theorem dL_law_291 : decode cL_law 291 = .ok (.ireturn, 1) := by decide +kernel
theorem dL_law_292 : decode cL_law 292 = .ok (.aload_n 1, 1) := by decide +kernel
theorem dL_law_293 : decode cL_law 293 = .ok (.aload_n 0, 1) := by decide +kernel
theorem dL_law_294 : decode cL_law 294 = .ok (.iload_n 3, 1) := by decide +kernel
theorem dL_law_295 : decode cL_law 295 = .ok (.iconst 1, 1) := by decide +kernel
theorem dL_law_296 : decode cL_law 296 = .ok (.iadd, 1) := by decide +kernel
theorem dL_law_297 : decode cL_law 297 = .ok (.iaload, 1) := by decide +kernel
theorem dL_law_298 : decode cL_law 298 = .ok (.aload_n 0, 1) := by decide +kernel
theorem dL_law_299 : decode cL_law 299 = .ok (.iload_n 3, 1) := by decide +kernel
theorem dL_law_300 : decode cL_law 300 = .ok (.iconst 2, 1) := by decide +kernel
theorem dL_law_301 : decode cL_law 301 = .ok (.iadd, 1) := by decide +kernel
theorem dL_law_302 : decode cL_law 302 = .ok (.iaload, 1) := by decide +kernel
theorem dL_law_303 : decode cL_law 303 = .ok (.invokevirtual 48, 3) := by decide +kernel
theorem dL_law_306 : decode cL_law 306 = .ok (.aload_n 2, 1) := by decide +kernel
theorem dL_law_307 : decode cL_law 307 = .ok (.aload_n 0, 1) := by decide +kernel
theorem dL_law_308 : decode cL_law 308 = .ok (.iload_n 3, 1) := by decide +kernel
theorem dL_law_309 : decode cL_law 309 = .ok (.iconst 1, 1) := by decide +kernel
theorem dL_law_310 : decode cL_law 310 = .ok (.iadd, 1) := by decide +kernel
theorem dL_law_311 : decode cL_law 311 = .ok (.iaload, 1) := by decide +kernel
theorem dL_law_312 : decode cL_law 312 = .ok (.aload_n 0, 1) := by decide +kernel
theorem dL_law_313 : decode cL_law 313 = .ok (.iload_n 3, 1) := by decide +kernel
theorem dL_law_314 : decode cL_law 314 = .ok (.iconst 2, 1) := by decide +kernel
theorem dL_law_315 : decode cL_law 315 = .ok (.iadd, 1) := by decide +kernel
theorem dL_law_316 : decode cL_law 316 = .ok (.iaload, 1) := by decide +kernel
theorem dL_law_317 : decode cL_law 317 = .ok (.invokevirtual 51, 3) := by decide +kernel
theorem dL_law_320 : decode cL_law 320 = .ok (.if_icmp .eq 133, 3) := by decide +kernel
theorem dL_law_323 : decode cL_law 323 = .ok (.iconst 0, 1) := by decide +kernel
theorem dL_law_324 : decode cL_law 324 = .ok (.ireturn, 1) := by decide +kernel
theorem dL_law_325 : decode cL_law 325 = .ok (.aload_n 1, 1) := by decide +kernel
theorem dL_law_326 : decode cL_law 326 = .ok (.aload_n 0, 1) := by decide +kernel
theorem dL_law_327 : decode cL_law 327 = .ok (.iload_n 3, 1) := by decide +kernel
theorem dL_law_328 : decode cL_law 328 = .ok (.iconst 1, 1) := by decide +kernel
theorem dL_law_329 : decode cL_law 329 = .ok (.iadd, 1) := by decide +kernel
theorem dL_law_330 : decode cL_law 330 = .ok (.iaload, 1) := by decide +kernel
theorem dL_law_331 : decode cL_law 331 = .ok (.invokevirtual 52, 3) := by decide +kernel
theorem dL_law_334 : decode cL_law 334 = .ok (.aload_n 2, 1) := by decide +kernel
theorem dL_law_335 : decode cL_law 335 = .ok (.aload_n 0, 1) := by decide +kernel
theorem dL_law_336 : decode cL_law 336 = .ok (.iload_n 3, 1) := by decide +kernel
theorem dL_law_337 : decode cL_law 337 = .ok (.iconst 1, 1) := by decide +kernel
theorem dL_law_338 : decode cL_law 338 = .ok (.iadd, 1) := by decide +kernel
theorem dL_law_339 : decode cL_law 339 = .ok (.iaload, 1) := by decide +kernel
theorem dL_law_340 : decode cL_law 340 = .ok (.invokevirtual 55, 3) := by decide +kernel
theorem dL_law_343 : decode cL_law 343 = .ok (.if_icmp .eq 110, 3) := by decide +kernel
theorem dL_law_346 : decode cL_law 346 = .ok (.iconst 0, 1) := by decide +kernel
theorem dL_law_347 : decode cL_law 347 = .ok (.ireturn, 1) := by decide +kernel
theorem dL_law_348 : decode cL_law 348 = .ok (.aload_n 1, 1) := by decide +kernel
theorem dL_law_349 : decode cL_law 349 = .ok (.aload_n 0, 1) := by decide +kernel
theorem dL_law_350 : decode cL_law 350 = .ok (.iload_n 3, 1) := by decide +kernel
theorem dL_law_351 : decode cL_law 351 = .ok (.iconst 1, 1) := by decide +kernel
theorem dL_law_352 : decode cL_law 352 = .ok (.iadd, 1) := by decide +kernel
theorem dL_law_353 : decode cL_law 353 = .ok (.iaload, 1) := by decide +kernel
theorem dL_law_354 : decode cL_law 354 = .ok (.invokevirtual 56, 3) := by decide +kernel
theorem dL_law_357 : decode cL_law 357 = .ok (.aload_n 2, 1) := by decide +kernel
theorem dL_law_358 : decode cL_law 358 = .ok (.aload_n 0, 1) := by decide +kernel
theorem dL_law_359 : decode cL_law 359 = .ok (.iload_n 3, 1) := by decide +kernel
theorem dL_law_360 : decode cL_law 360 = .ok (.iconst 1, 1) := by decide +kernel
theorem dL_law_361 : decode cL_law 361 = .ok (.iadd, 1) := by decide +kernel
theorem dL_law_362 : decode cL_law 362 = .ok (.iaload, 1) := by decide +kernel
theorem dL_law_363 : decode cL_law 363 = .ok (.invokevirtual 59, 3) := by decide +kernel
theorem dL_law_366 : decode cL_law 366 = .ok (.if_icmp .eq 87, 3) := by decide +kernel
theorem dL_law_369 : decode cL_law 369 = .ok (.iconst 0, 1) := by decide +kernel
theorem dL_law_370 : decode cL_law 370 = .ok (.ireturn, 1) := by decide +kernel
theorem dL_law_371 : decode cL_law 371 = .ok (.aload_n 1, 1) := by decide +kernel
theorem dL_law_372 : decode cL_law 372 = .ok (.aload_n 0, 1) := by decide +kernel
theorem dL_law_373 : decode cL_law 373 = .ok (.iload_n 3, 1) := by decide +kernel
theorem dL_law_374 : decode cL_law 374 = .ok (.iconst 1, 1) := by decide +kernel
theorem dL_law_375 : decode cL_law 375 = .ok (.iadd, 1) := by decide +kernel
theorem dL_law_376 : decode cL_law 376 = .ok (.iaload, 1) := by decide +kernel
theorem dL_law_377 : decode cL_law 377 = .ok (.invokevirtual 60, 3) := by decide +kernel
theorem dL_law_380 : decode cL_law 380 = .ok (.aload_n 2, 1) := by decide +kernel
theorem dL_law_381 : decode cL_law 381 = .ok (.aload_n 0, 1) := by decide +kernel
theorem dL_law_382 : decode cL_law 382 = .ok (.iload_n 3, 1) := by decide +kernel
theorem dL_law_383 : decode cL_law 383 = .ok (.iconst 1, 1) := by decide +kernel
theorem dL_law_384 : decode cL_law 384 = .ok (.iadd, 1) := by decide +kernel
theorem dL_law_385 : decode cL_law 385 = .ok (.iaload, 1) := by decide +kernel
theorem dL_law_386 : decode cL_law 386 = .ok (.invokevirtual 63, 3) := by decide +kernel
theorem dL_law_389 : decode cL_law 389 = .ok (.if_icmp .eq 64, 3) := by decide +kernel
theorem dL_law_392 : decode cL_law 392 = .ok (.iconst 0, 1) := by decide +kernel
theorem dL_law_393 : decode cL_law 393 = .ok (.ireturn, 1) := by decide +kernel
theorem dL_law_394 : decode cL_law 394 = .ok (.aload_n 1, 1) := by decide +kernel
theorem dL_law_395 : decode cL_law 395 = .ok (.aload_n 0, 1) := by decide +kernel
theorem dL_law_396 : decode cL_law 396 = .ok (.iload_n 3, 1) := by decide +kernel
theorem dL_law_397 : decode cL_law 397 = .ok (.iconst 1, 1) := by decide +kernel
theorem dL_law_398 : decode cL_law 398 = .ok (.iadd, 1) := by decide +kernel
theorem dL_law_399 : decode cL_law 399 = .ok (.iaload, 1) := by decide +kernel
theorem dL_law_400 : decode cL_law 400 = .ok (.invokevirtual 64, 3) := by decide +kernel
theorem dL_law_403 : decode cL_law 403 = .ok (.aload_n 2, 1) := by decide +kernel
theorem dL_law_404 : decode cL_law 404 = .ok (.aload_n 0, 1) := by decide +kernel
theorem dL_law_405 : decode cL_law 405 = .ok (.iload_n 3, 1) := by decide +kernel
theorem dL_law_406 : decode cL_law 406 = .ok (.iconst 1, 1) := by decide +kernel
theorem dL_law_407 : decode cL_law 407 = .ok (.iadd, 1) := by decide +kernel
theorem dL_law_408 : decode cL_law 408 = .ok (.iaload, 1) := by decide +kernel
theorem dL_law_409 : decode cL_law 409 = .ok (.invokevirtual 67, 3) := by decide +kernel
theorem dL_law_412 : decode cL_law 412 = .ok (.if_icmp .eq 41, 3) := by decide +kernel
theorem dL_law_415 : decode cL_law 415 = .ok (.iconst 0, 1) := by decide +kernel
theorem dL_law_416 : decode cL_law 416 = .ok (.ireturn, 1) := by decide +kernel
theorem dL_law_417 : decode cL_law 417 = .ok (.aload_n 1, 1) := by decide +kernel
theorem dL_law_418 : decode cL_law 418 = .ok (.aload_n 0, 1) := by decide +kernel
theorem dL_law_419 : decode cL_law 419 = .ok (.iload_n 3, 1) := by decide +kernel
theorem dL_law_420 : decode cL_law 420 = .ok (.iconst 1, 1) := by decide +kernel
theorem dL_law_421 : decode cL_law 421 = .ok (.iadd, 1) := by decide +kernel
theorem dL_law_422 : decode cL_law 422 = .ok (.iaload, 1) := by decide +kernel
theorem dL_law_423 : decode cL_law 423 = .ok (.invokevirtual 68, 3) := by decide +kernel
theorem dL_law_426 : decode cL_law 426 = .ok (.aload_n 2, 1) := by decide +kernel
theorem dL_law_427 : decode cL_law 427 = .ok (.aload_n 0, 1) := by decide +kernel
theorem dL_law_428 : decode cL_law 428 = .ok (.iload_n 3, 1) := by decide +kernel
theorem dL_law_429 : decode cL_law 429 = .ok (.iconst 1, 1) := by decide +kernel
theorem dL_law_430 : decode cL_law 430 = .ok (.iadd, 1) := by decide +kernel
theorem dL_law_431 : decode cL_law 431 = .ok (.iaload, 1) := by decide +kernel
theorem dL_law_432 : decode cL_law 432 = .ok (.invokevirtual 71, 3) := by decide +kernel
theorem dL_law_435 : decode cL_law 435 = .ok (.if_icmp .eq 18, 3) := by decide +kernel
theorem dL_law_438 : decode cL_law 438 = .ok (.iconst 0, 1) := by decide +kernel
theorem dL_law_439 : decode cL_law 439 = .ok (.ireturn, 1) := by decide +kernel
theorem dL_law_440 : decode cL_law 440 = .ok (.aload_n 1, 1) := by decide +kernel
theorem dL_law_441 : decode cL_law 441 = .ok (.invokevirtual 72, 3) := by decide +kernel
theorem dL_law_444 : decode cL_law 444 = .ok (.aload_n 2, 1) := by decide +kernel
theorem dL_law_445 : decode cL_law 445 = .ok (.invokevirtual 75, 3) := by decide +kernel
theorem dL_law_448 : decode cL_law 448 = .ok (.if_icmp .eq 5, 3) := by decide +kernel
theorem dL_law_451 : decode cL_law 451 = .ok (.iconst 0, 1) := by decide +kernel
theorem dL_law_452 : decode cL_law 452 = .ok (.ireturn, 1) := by decide +kernel
theorem dL_law_453 : decode cL_law 453 = .ok (.iinc 3 3, 3) := by decide +kernel
theorem dL_law_456 : decode cL_law 456 = .ok (.goto (-438), 3) := by decide +kernel
theorem dL_law_459 : decode cL_law 459 = .ok (.iconst 1, 1) := by decide +kernel
theorem dL_law_460 : decode cL_law 460 = .ok (.ireturn, 1) := by decide +kernel
end
section
/-! plain facts: an 'if' over any proposition, counts, neighbours, what can be come to -/
noncomputable def go_ite {α : Type} (P : Prop) (a b : α) : α := @ite α P (Classical.propDecidable P) a b
theorem go_ite_t {α : Type} {P : Prop} {a b : α} (h : P) : go_ite P a b = a := by unfold go_ite; exact if_pos h
theorem go_ite_f {α : Type} {P : Prop} {a b : α} (h : ¬ P) : go_ite P a b = b := by unfold go_ite; exact if_neg h
theorem go_ite_c {α : Type} {P Q : Prop} {a b : α} (h : P ↔ Q) : go_ite P a b = go_ite Q a b := by rw [propext h]
noncomputable def go_cnt (P : Nat → Prop) : Nat → Nat
  | 0 => 0
  | n + 1 => go_cnt P n + go_ite (P n) 1 0
theorem go_cnt_y {P : Nat → Prop} {n : Nat} (h : P n) : go_cnt P (n + 1) = go_cnt P n + 1 := by
  show go_cnt P n + go_ite (P n) 1 0 = _
  rw [go_ite_t h]
theorem go_cnt_n {P : Nat → Prop} {n : Nat} (h : ¬ P n) : go_cnt P (n + 1) = go_cnt P n := by
  show go_cnt P n + go_ite (P n) 1 0 = _
  rw [go_ite_f h, Nat.add_zero]
theorem go_cnt_c {P Q : Nat → Prop} : ∀ {n : Nat}, (∀ j, j < n → (P j ↔ Q j)) → go_cnt P n = go_cnt Q n
  | 0, _ => rfl
  | n + 1, h => by
    show go_cnt P n + go_ite (P n) 1 0 = go_cnt Q n + go_ite (Q n) 1 0
    rw [go_cnt_c (fun j hj => h j (Nat.lt_succ_of_lt hj)), go_ite_c (h n (Nat.lt_succ_self n))]
theorem go_cnt_le (P : Nat → Prop) : ∀ n, go_cnt P n ≤ n
  | 0 => Nat.le_refl 0
  | n + 1 => by
    have ih := go_cnt_le P n
    by_cases h : P n
    · rw [go_cnt_y h]; omega
    · rw [go_cnt_n h]; omega
theorem go_cnt_sub {P Q : Nat → Prop} : ∀ {n : Nat}, (∀ j, j < n → P j → Q j) → go_cnt P n ≤ go_cnt Q n
  | 0, _ => Nat.le_refl 0
  | n + 1, h => by
    have ih := go_cnt_sub (P := P) (Q := Q) (n := n) (fun j hj => h j (Nat.lt_succ_of_lt hj))
    by_cases hp : P n
    · rw [go_cnt_y hp, go_cnt_y (h n (Nat.lt_succ_self n) hp)]; omega
    · rw [go_cnt_n hp]
      by_cases hq : Q n
      · rw [go_cnt_y hq]; omega
      · rw [go_cnt_n hq]; omega
theorem go_cnt_lt {P Q : Nat → Prop} {k : Nat} : ∀ {n : Nat}, (∀ j, j < n → P j → Q j) → k < n → Q k → ¬ P k → go_cnt P n < go_cnt Q n
  | 0, _, hk, _, _ => absurd hk (Nat.not_lt_zero k)
  | n + 1, h, hk, hq, hp => by
    have hs := go_cnt_sub (P := P) (Q := Q) (n := n) (fun j hj => h j (Nat.lt_succ_of_lt hj))
    by_cases e : k = n
    · subst e
      rw [go_cnt_n hp, go_cnt_y hq]; omega
    · have ih := go_cnt_lt (P := P) (Q := Q) (k := k) (n := n) (fun j hj => h j (Nat.lt_succ_of_lt hj)) (by omega) hq hp
      by_cases hp2 : P n
      · rw [go_cnt_y hp2, go_cnt_y (h n (Nat.lt_succ_self n) hp2)]; omega
      · rw [go_cnt_n hp2]
        by_cases hq2 : Q n
        · rw [go_cnt_y hq2]; omega
        · rw [go_cnt_n hq2]; omega
theorem go_cnt_add {P Q : Nat → Prop} : ∀ {n : Nat}, (∀ j, j < n → ¬ (P j ∧ Q j)) → go_cnt (fun j => P j ∨ Q j) n = go_cnt P n + go_cnt Q n
  | 0, _ => rfl
  | n + 1, h => by
    have ih := go_cnt_add (P := P) (Q := Q) (n := n) (fun j hj => h j (Nat.lt_succ_of_lt hj))
    by_cases hp : P n
    · have hq : ¬ Q n := fun q => h n (Nat.lt_succ_self n) ⟨hp, q⟩
      rw [go_cnt_y (P := fun j => P j ∨ Q j) (Or.inl hp), go_cnt_y hp, go_cnt_n hq, ih]; omega
    · by_cases hq : Q n
      · rw [go_cnt_y (P := fun j => P j ∨ Q j) (Or.inr hq), go_cnt_n hp, go_cnt_y hq, ih]; omega
      · rw [go_cnt_n (P := fun j => P j ∨ Q j) (fun h => h.elim hp hq), go_cnt_n hp, go_cnt_n hq, ih]
theorem go_cnt_0 {P : Nat → Prop} : ∀ {n : Nat}, (∀ j, j < n → ¬ P j) → go_cnt P n = 0
  | 0, _ => rfl
  | n + 1, h => by
    rw [go_cnt_n (h n (Nat.lt_succ_self n))]
    exact go_cnt_0 (fun j hj => h j (Nat.lt_succ_of_lt hj))
theorem go_cnt_p {P : Nat → Prop} {n k : Nat} (hk : k < n) (h : P k) : 0 < go_cnt P n := by
  have h1 := go_cnt_lt (P := fun _ => False) (Q := P) (k := k) (n := n) (fun _ _ f => f.elim) hk h (fun f => f)
  omega
theorem go_cnt_0i {P : Nat → Prop} {n : Nat} : go_cnt P n = 0 ↔ ∀ j, j < n → ¬ P j :=
  ⟨fun h j hj hp => by have := go_cnt_p hj hp; omega, go_cnt_0⟩
theorem go_cnt_1 {k : Nat} : ∀ {n : Nat}, k < n → go_cnt (fun j => j = k) n = 1
  | 0, h => absurd h (Nat.not_lt_zero k)
  | n + 1, h => by
    by_cases e : n = k
    · rw [go_cnt_y (P := fun j => j = k) e, go_cnt_0 (fun j hj hjk => by omega)]
    · rw [go_cnt_n (P := fun j => j = k) e]
      exact go_cnt_1 (by omega)
theorem go_cnt_ins {P Q : Nat → Prop} {n k : Nat} (hk : k < n) (hp : ¬ P k) (h : ∀ j, j < n → (Q j ↔ P j ∨ j = k)) : go_cnt Q n = go_cnt P n + 1 := by
  rw [go_cnt_c h, go_cnt_add (P := P) (Q := fun j => j = k) (fun j _ hh => by obtain ⟨h1, h2⟩ := hh; rw [h2] at h1; exact hp h1), go_cnt_1 hk]
theorem go_cnt_same {P Q : Nat → Prop} {n : Nat} (h : ∀ j, j < n → P j → Q j) (he : go_cnt Q n ≤ go_cnt P n) : ∀ j, j < n → Q j → P j := by
  intro j hj hq
  by_cases hp : P j
  · exact hp
  · have := go_cnt_lt h hj hq hp; omega
/-- just one -/
theorem go_cnt_u {P : Nat → Prop} {n : Nat} : go_cnt P n = 1 ↔ ∃ k, k < n ∧ P k ∧ ∀ j, j < n → P j → j = k := by
  constructor
  · intro h
    by_cases he : ∃ k, k < n ∧ P k
    · obtain ⟨k, hk, hp⟩ := he
      refine ⟨k, hk, hp, fun j hj hpj => ?_⟩
      have h1 := go_cnt_same (P := fun j => j = k) (Q := P) (n := n) (fun j _ e => by rw [e]; exact hp) (by rw [h, go_cnt_1 hk]; exact Nat.le_refl 1)
      exact h1 j hj hpj
    · have h0 := go_cnt_0 (P := P) (n := n) (fun j hj hp => he ⟨j, hj, hp⟩)
      omega
  · intro ⟨k, hk, hp, hu⟩
    rw [go_cnt_c (Q := fun j => j = k) (fun j hj => ⟨fun h => hu j hj h, fun e => by rw [e]; exact hp⟩), go_cnt_1 hk]
/-- neighbours on the board of 7 by 7 -/
def go_ad (a b : Nat) : Prop := a < 49 ∧ b < 49 ∧ (a = b + 7 ∨ b = a + 7 ∨ (a = b + 1 ∧ a % 7 ≠ 0) ∨ (b = a + 1 ∧ b % 7 ≠ 0))
theorem go_ad_s {a b : Nat} (h : go_ad a b) : go_ad b a := by
  obtain ⟨h1, h2, h3⟩ := h
  exact ⟨h2, h1, by omega⟩
def go_nb (k j : Nat) : Option Nat := if k = 0 then (if j < 7 then none else some (j - 7)) else if k = 1 then (if 41 < j then none else some (j + 7)) else if k = 2 then (if j % 7 = 0 then none else some (j - 1)) else (if j % 7 = 6 then none else some (j + 1))
theorem go_nb_ad {j i : Nat} (hj : j < 49) : go_ad j i ↔ ∃ k, k < 4 ∧ go_nb k j = some i := by
  constructor
  · intro ⟨_, hi, h⟩
    rcases h with h | h | h | h
    · refine ⟨0, by decide, ?_⟩
      show (if j < 7 then none else some (j - 7)) = some i
      rw [if_neg (by omega)]; exact congrArg some (by omega)
    · refine ⟨1, by decide, ?_⟩
      show (if 41 < j then none else some (j + 7)) = some i
      rw [if_neg (by omega)]; exact congrArg some (by omega)
    · refine ⟨2, by decide, ?_⟩
      show (if j % 7 = 0 then none else some (j - 1)) = some i
      rw [if_neg (by omega)]; exact congrArg some (by omega)
    · refine ⟨3, by decide, ?_⟩
      show (if j % 7 = 6 then none else some (j + 1)) = some i
      rw [if_neg (by omega)]; exact congrArg some (by omega)
  · intro ⟨k, hk, h⟩
    rcases (show k = 0 ∨ k = 1 ∨ k = 2 ∨ k = 3 by omega) with rfl | rfl | rfl | rfl
    · have h : (if j < 7 then none else some (j - 7)) = some i := h
      by_cases c : j < 7
      · rw [if_pos c] at h; cases h
      · rw [if_neg c] at h; have := Option.some.inj h; exact ⟨hj, by omega, by omega⟩
    · have h : (if 41 < j then none else some (j + 7)) = some i := h
      by_cases c : 41 < j
      · rw [if_pos c] at h; cases h
      · rw [if_neg c] at h; have := Option.some.inj h; exact ⟨hj, by omega, by omega⟩
    · have h : (if j % 7 = 0 then none else some (j - 1)) = some i := h
      by_cases c : j % 7 = 0
      · rw [if_pos c] at h; cases h
      · rw [if_neg c] at h; have := Option.some.inj h; exact ⟨hj, by omega, by omega⟩
    · have h : (if j % 7 = 6 then none else some (j + 1)) = some i := h
      by_cases c : j % 7 = 6
      · rw [if_pos c] at h; cases h
      · rw [if_neg c] at h; have := Option.some.inj h; exact ⟨hj, by omega, by omega⟩
theorem go_nb_lt {k j i : Nat} (hj : j < 49) (hk : k < 4) (h : go_nb k j = some i) : i < 49 := ((go_nb_ad hj).mpr ⟨k, hk, h⟩).2.1
/-- what can be come to from T inside S: the least set that has T's points in S and is closed -/
def go_rc (S T : Nat → Prop) (j : Nat) : Prop := ∀ C : Nat → Prop, (∀ a, T a → S a → C a) → (∀ a b, C a → go_ad a b → S b → C b) → C j
theorem go_rc_b {S T : Nat → Prop} {a : Nat} (ht : T a) (hs : S a) : go_rc S T a := fun _ h1 _ => h1 a ht hs
theorem go_rc_s {S T : Nat → Prop} {a b : Nat} (h : go_rc S T a) (had : go_ad a b) (hs : S b) : go_rc S T b := fun C h1 h2 => h2 a b (h C h1 h2) had hs
theorem go_rc_i {S T C : Nat → Prop} {j : Nat} (h1 : ∀ a, T a → S a → C a) (h2 : ∀ a b, go_rc S T a → C a → go_ad a b → S b → C b) (h : go_rc S T j) : C j :=
  (h (fun x => go_rc S T x ∧ C x) (fun a ta sa => ⟨go_rc_b ta sa, h1 a ta sa⟩) (fun a b hc had sb => ⟨go_rc_s hc.1 had sb, h2 a b hc.1 hc.2 had sb⟩)).2
theorem go_rc_S {S T : Nat → Prop} {j : Nat} (h : go_rc S T j) : S j := go_rc_i (C := S) (fun _ _ s => s) (fun _ _ _ _ _ s => s) h
theorem go_rc_c {S T S2 T2 : Nat → Prop} (hS : ∀ a, S a ↔ S2 a) (hT : ∀ a, T a ↔ T2 a) (j : Nat) : go_rc S T j ↔ go_rc S2 T2 j := by
  rw [show S = S2 from funext fun a => propext (hS a), show T = T2 from funext fun a => propext (hT a)]
theorem go_rc_tr {S T : Nat → Prop} {a b : Nat} (h1 : go_rc S T a) (h2 : go_rc S (fun x => x = a) b) : go_rc S T b :=
  go_rc_i (C := fun x => go_rc S T x) (fun x hx _ => by rw [hx]; exact h1) (fun _ _ _ h had s => go_rc_s h had s) h2
theorem go_rc_sy {S : Nat → Prop} {a b : Nat} (h : go_rc S (fun x => x = a) b) : go_rc S (fun x => x = b) a := by
  refine go_rc_i (S := S) (T := fun x => x = a) (C := fun x => go_rc S (fun y => y = x) a) (fun x hx sx => ?_) (fun x y rx cx had sy => ?_) h
  · have hx : x = a := hx
    subst hx
    exact go_rc_b rfl sx
  · exact go_rc_tr (go_rc_s (go_rc_b rfl sy) (go_ad_s had) (go_rc_S rx)) cx
theorem go_rc_seed {S T : Nat → Prop} {x : Nat} : go_rc S T x ↔ ∃ y, T y ∧ go_rc S (fun z => z = x) y := by
  constructor
  · intro h
    have h1 : ∃ y, T y ∧ go_rc S (fun z => z = y) x := by
      refine go_rc_i (S := S) (T := T) (C := fun x => ∃ y, T y ∧ go_rc S (fun z => z = y) x) (fun a ta sa => ⟨a, ta, go_rc_b rfl sa⟩) (fun a b _ hc had sb => ?_) h
      obtain ⟨y, h1, h2⟩ := hc
      exact ⟨y, h1, go_rc_s h2 had sb⟩
    obtain ⟨y, h2, h3⟩ := h1
    exact ⟨y, h2, go_rc_sy h3⟩
  · intro ⟨y, h1, h2⟩
    exact go_rc_tr (go_rc_b h1 (go_rc_S h2)) (go_rc_sy h2)
/-- the points that a closed set has: go_rc is the only such set that is inside it -/
theorem go_rc_eq {S T N : Nat → Prop} (h1 : ∀ a, T a → S a → N a) (h2 : ∀ a, N a → go_rc S T a) (h3 : ∀ a b, N a → go_ad a b → S b → N b) (j : Nat) : N j ↔ go_rc S T j :=
  ⟨h2 j, fun h => h N h1 h3⟩
/-- the group of q on the board B -/
def go_gp (B : Nat → Nat) (q j : Nat) : Prop := go_rc (fun a => a < 49 ∧ B a = B q) (fun a => a = q) j
theorem go_gp_q {B : Nat → Nat} {q : Nat} (h : q < 49) : go_gp B q q := go_rc_b rfl ⟨h, rfl⟩
theorem go_gp_lt {B : Nat → Nat} {q j : Nat} (h : go_gp B q j) : j < 49 := (go_rc_S h).1
theorem go_gp_B {B : Nat → Nat} {q j : Nat} (h : go_gp B q j) : B j = B q := (go_rc_S h).2
theorem go_gp_sy {B : Nat → Nat} {q j : Nat} (h : go_gp B q j) : go_gp B j q := by
  have hb := go_gp_B h
  have h1 := go_rc_sy h
  unfold go_gp
  rw [hb]
  exact h1
theorem go_gp_tr {B : Nat → Nat} {a b c : Nat} (h1 : go_gp B a b) (h2 : go_gp B b c) : go_gp B a c := by
  have hb := go_gp_B h1
  unfold go_gp at h2
  rw [hb] at h2
  exact go_rc_tr h1 h2
theorem go_gp_eq {B : Nat → Nat} {q j : Nat} (h : go_gp B q j) (i : Nat) : go_gp B q i ↔ go_gp B j i := ⟨fun h2 => go_gp_tr (go_gp_sy h) h2, fun h2 => go_gp_tr h h2⟩
theorem go_gp_cl {B : Nat → Nat} {q a b : Nat} (h : go_gp B q a) (had : go_ad a b) (hb : B b = B q) : go_gp B q b := go_rc_s h had ⟨had.2.1, hb⟩
/-- boards that agree -/
theorem go_gp_c {B B2 : Nat → Nat} {q : Nat} (hq : q < 49) (h : ∀ j, j < 49 → B j = B2 j) (j : Nat) : go_gp B q j ↔ go_gp B2 q j := by
  refine go_rc_c (fun a => ?_) (fun a => Iff.rfl) j
  rw [h q hq]
  exact ⟨fun ⟨h1, h2⟩ => ⟨h1, by rw [← h a h1]; exact h2⟩, fun ⟨h1, h2⟩ => ⟨h1, by rw [h a h1]; exact h2⟩⟩
/-- the empty points beside a set; how many of them a group has -/
def go_lb (B : Nat → Nat) (X : Nat → Prop) (j : Nat) : Prop := j < 49 ∧ B j = 2 ∧ ∃ i, X i ∧ go_ad i j
noncomputable def go_nl (B : Nat → Nat) (q : Nat) : Nat := go_cnt (go_lb B (go_gp B q)) 49
theorem go_nl_0 {B : Nat → Nat} {q : Nat} : go_nl B q = 0 ↔ ¬ ∃ i j, go_gp B q i ∧ go_ad i j ∧ B j = 2 := by
  unfold go_nl
  rw [go_cnt_0i]
  constructor
  · intro h ⟨i, j, h1, h2, h3⟩
    exact h j h2.2.1 ⟨h2.2.1, h3, i, h1, h2⟩
  · intro h j hj ⟨_, h2, i, h3, h4⟩
    exact h ⟨i, j, h3, h4, h2⟩
theorem go_nl_gp {B : Nat → Nat} {q j : Nat} (h : go_gp B q j) : go_nl B j = go_nl B q := by
  unfold go_nl
  refine go_cnt_c (fun i _ => ?_)
  unfold go_lb
  constructor
  · intro ⟨h1, h2, k, h3, h4⟩
    exact ⟨h1, h2, k, (go_gp_eq h k).mpr h3, h4⟩
  · intro ⟨h1, h2, k, h3, h4⟩
    exact ⟨h1, h2, k, (go_gp_eq h k).mp h3, h4⟩
theorem go_nl_c {B B2 : Nat → Nat} {q : Nat} (hq : q < 49) (h : ∀ j, j < 49 → B j = B2 j) : go_nl B q = go_nl B2 q := by
  unfold go_nl
  refine go_cnt_c (fun i hi => ?_)
  unfold go_lb
  rw [h i hi]
  constructor
  · intro ⟨h1, h2, k, h3, h4⟩
    exact ⟨h1, h2, k, (go_gp_c hq h k).mp h3, h4⟩
  · intro ⟨h1, h2, k, h3, h4⟩
    exact ⟨h1, h2, k, (go_gp_c hq h k).mpr h3, h4⟩
/-! a move on a board: the stone put, the other player's stones without liberty, the board behind it -/
def go_put (B : Nat → Nat) (q p : Nat) : Nat → Nat := fun j => if j = q then p else B j
def go_dd (B : Nat → Nat) (p j : Nat) : Prop := j < 49 ∧ B j = 1 - p ∧ go_nl B j = 0
noncomputable def go_cap (B : Nat → Nat) (p : Nat) : Nat → Nat := fun j => go_ite (go_dd B p j) 2 (B j)
noncomputable def go_tb (B : Nat → Nat) (p q : Nat) : Nat → Nat := go_cap (go_put B q p) p
noncomputable def go_tk (B : Nat → Nat) (p q : Nat) : Nat := go_cnt (go_dd (go_put B q p) p) 49
/-- the answer of a move at the empty point q -/
noncomputable def go_tv (B : Nat → Nat) (n : Nat) (HB : Nat → Nat → Nat) (p q : Nat) : Int32 :=
  go_ite (go_nl (go_tb B p q) q = 0) (-5) (go_ite (0 < n ∧ ∀ j, j < 49 → go_tb B p q j = HB (n - 1) j) (-6) (nI (go_tk B p q)))
def go_okq (q : Int32) : Prop := ∃ j : Nat, j < 49 ∧ q = nI j
def go_okp (p : Int32) : Prop := ∃ j : Nat, j < 2 ∧ p = nI j
end
section
/-! sets of points as longs: bit j of x; the wb_ rows are pasted out of kit/laws/BITS -/
theorem wb_tb (n : Nat) : (lN n).toBitVec = BitVec.ofNat 64 n := rfl
theorem wb_inj {a b : Int64} (h : a.toBitVec = b.toBitVec) : a = b := Int64.toBitVec_inj.mp h
theorem wb_tn {n : Nat} (h : n < 2 ^ 64) : (lN n).toBitVec.toNat = n := by rw [wb_tb, BitVec.toNat_ofNat, Nat.mod_eq_of_lt h]
theorem wb_of (x : Int64) : ∃ n, n < 2 ^ 64 ∧ x = lN n := ⟨x.toBitVec.toNat, x.toBitVec.isLt, wb_inj (by rw [wb_tb]; simp)⟩
theorem wb_of32 (x : Int32) : ∃ n, n < 2 ^ 32 ∧ x = nI n := ⟨x.toBitVec.toNat, x.toBitVec.isLt, Int32.toBitVec_inj.mp (by show _ = BitVec.ofNat 32 _; simp)⟩
theorem wb_c : ∀ k, k < 64 → ((nI k).toInt64 &&& 63) = lN k := by decide +kernel
theorem wb_cu : ∀ k, k < 64 → ((nI k).toInt64.toUInt64 &&& Int64.toUInt64 63) = UInt64.ofNat k := by decide +kernel
theorem wb_sm : ∀ k, k < 64 → (BitVec.ofNat 64 k).smod 64 = BitVec.ofNat 64 k := by decide +kernel
theorem wb_pw {a b : Nat} (h : a ≤ b) : 2 ^ b = 2 ^ a * 2 ^ (b - a) := by rw [← Nat.pow_add]; congr 1; omega
theorem wb_lt2 {a b : Nat} (h : a < b) : 2 ^ a < 2 ^ b := Nat.pow_lt_pow_right (by decide) h
theorem wb_mod (n : Nat) : lN n = lN (n % 2 ^ 64) := wb_inj (by rw [wb_tb, wb_tb]; apply BitVec.eq_of_toNat_eq; rw [BitVec.toNat_ofNat, BitVec.toNat_ofNat, Nat.mod_mod])
theorem wb_shr {n k : Nat} (hn : n < 2 ^ 64) (hk : k < 64) : ((lN n).toUInt64 >>> ((nI k).toInt64.toUInt64 &&& Int64.toUInt64 63)).toInt64 = lN (n / 2 ^ k) := by
  rw [wb_cu k hk]
  apply wb_inj
  apply BitVec.eq_of_toNat_eq
  show ((lN n).toUInt64 >>> UInt64.ofNat k).toNat = (BitVec.ofNat 64 _).toNat
  have h1 : (UInt64.ofNat k).toNat = k := by
    show (BitVec.ofNat 64 k).toNat = k
    rw [BitVec.toNat_ofNat, Nat.mod_eq_of_lt (by omega)]
  have h2 : (lN n).toUInt64.toNat = n := wb_tn hn
  rw [UInt64.toNat_shiftRight, h1, h2, Nat.mod_eq_of_lt hk, Nat.shiftRight_eq_div_pow, BitVec.toNat_ofNat, Nat.mod_eq_of_lt (Nat.lt_of_le_of_lt (Nat.div_le_self _ _) hn)]
theorem wb_shl (n : Nat) {k : Nat} (hk : k < 64) : lN n <<< ((nI k).toInt64 &&& 63) = lN (n * 2 ^ k) := by
  rw [wb_c k hk]
  apply wb_inj
  rw [Int64.toBitVec_shiftLeft, wb_tb, wb_tb, wb_tb, wb_sm k hk]
  apply BitVec.eq_of_toNat_eq
  rw [BitVec.shiftLeft_eq', BitVec.toNat_shiftLeft, BitVec.toNat_ofNat, BitVec.toNat_ofNat, BitVec.toNat_ofNat, Nat.mod_eq_of_lt (show k < 2 ^ 64 by omega), Nat.shiftLeft_eq, Nat.mul_mod, Nat.mod_mod, ← Nat.mul_mod]
theorem wb_and {a b : Nat} (ha : a < 2 ^ 64) (hb : b < 2 ^ 64) : lN a &&& lN b = lN (a &&& b) := by
  apply wb_inj
  rw [Int64.toBitVec_and, wb_tb, wb_tb, wb_tb]
  apply BitVec.eq_of_toNat_eq
  rw [BitVec.toNat_and, BitVec.toNat_ofNat, BitVec.toNat_ofNat, BitVec.toNat_ofNat, Nat.mod_eq_of_lt ha, Nat.mod_eq_of_lt hb, Nat.mod_eq_of_lt (Nat.and_lt_two_pow _ hb)]
theorem wb_or {a b : Nat} (ha : a < 2 ^ 64) (hb : b < 2 ^ 64) : lN a ||| lN b = lN (a ||| b) := by
  apply wb_inj
  rw [Int64.toBitVec_or, wb_tb, wb_tb, wb_tb]
  apply BitVec.eq_of_toNat_eq
  rw [BitVec.toNat_or, BitVec.toNat_ofNat, BitVec.toNat_ofNat, BitVec.toNat_ofNat, Nat.mod_eq_of_lt ha, Nat.mod_eq_of_lt hb, Nat.mod_eq_of_lt (Nat.or_lt_two_pow ha hb)]
theorem wb_mask {n k : Nat} (hn : n < 2 ^ 64) (hk : k < 64) : lN n &&& lN (2 ^ k - 1) = lN (n % 2 ^ k) := by
  rw [wb_and hn (by have := wb_lt2 hk; omega), Nat.and_two_pow_sub_one_eq_mod]
theorem wb_a1 {n : Nat} (hn : n < 2 ^ 64) : lN n &&& 1 = lN (n % 2) := wb_mask (k := 1) hn (by decide)
theorem wb_bit {n k : Nat} (hn : n < 2 ^ 64) (hk : k < 64) : ((lN n).toUInt64 >>> ((nI k).toInt64.toUInt64 &&& Int64.toUInt64 63)).toInt64 &&& 1 = lN (n / 2 ^ k % 2) := by
  rw [wb_shr hn hk, wb_a1 (Nat.lt_of_le_of_lt (Nat.div_le_self _ _) hn)]
def go_m (x : Int64) (j : Nat) : Prop := x.toBitVec.getLsbD j = true
theorem go_m_lN {n j : Nat} (h : n < 2 ^ 64) : go_m (lN n) j ↔ n.testBit j = true := by
  show ((lN n).toBitVec.toNat).testBit j = true ↔ _
  rw [wb_tn h]
theorem go_m_lt {x : Int64} {j : Nat} (h : go_m x j) : j < 64 := by
  by_cases hj : j < 64
  · exact hj
  · unfold go_m at h
    rw [BitVec.getLsbD_of_ge _ _ (by omega)] at h
    cases h
theorem go_m_and (x y : Int64) (j : Nat) : go_m (x &&& y) j ↔ go_m x j ∧ go_m y j := by
  unfold go_m
  rw [Int64.toBitVec_and, BitVec.getLsbD_and, Bool.and_eq_true]
theorem go_m_or (x y : Int64) (j : Nat) : go_m (x ||| y) j ↔ go_m x j ∨ go_m y j := by
  unfold go_m
  rw [Int64.toBitVec_or, BitVec.getLsbD_or, Bool.or_eq_true]
theorem go_m_not (x : Int64) (j : Nat) : go_m (x ^^^ (-1)) j ↔ j < 64 ∧ ¬ go_m x j := by
  have h1 : (-1 : Int64).toBitVec = BitVec.allOnes 64 := by decide +kernel
  by_cases hj : j < 64
  · unfold go_m
    rw [Int64.toBitVec_xor, BitVec.getLsbD_xor, h1, BitVec.getLsbD_allOnes]
    simp [hj]
  · constructor
    · intro h
      exact absurd (go_m_lt h) hj
    · intro h
      exact absurd h.1 hj
/-- taking points off -/
theorem go_m_off (x y : Int64) (j : Nat) : go_m (x &&& (y ^^^ (-1))) j ↔ go_m x j ∧ ¬ go_m y j := by
  rw [go_m_and, go_m_not]
  exact ⟨fun h => ⟨h.1, h.2.2⟩, fun h => ⟨h.1, go_m_lt h.1, h.2⟩⟩
theorem go_m_ext {x y : Int64} (h : ∀ j, j < 64 → (go_m x j ↔ go_m y j)) : x = y :=
  wb_inj (BitVec.eq_of_getLsbD_eq fun i hi => Bool.eq_iff_iff.mpr (h i hi))
theorem go_m_0 (j : Nat) : ¬ go_m 0 j := by
  show ¬ ((0#64).getLsbD j = true)
  simp
theorem go_m_z {x : Int64} : x = 0 ↔ ∀ j, ¬ go_m x j :=
  ⟨fun h j => by rw [h]; exact go_m_0 j, fun h => go_m_ext (fun j _ => ⟨fun h1 => absurd h1 (h j), fun h1 => absurd h1 (go_m_0 j)⟩)⟩
theorem go_m_nz {x : Int64} (h : ¬ x = 0) : ∃ j, go_m x j := by
  by_cases c : ∃ j, go_m x j
  · exact c
  · exact absurd (go_m_z.mpr (fun j hj => c ⟨j, hj⟩)) h
/-- the set of one point -/
theorem go_m_b {k : Nat} (hk : k < 64) (j : Nat) : go_m ((1 : Int64) <<< ((nI k).toInt64 &&& 63)) j ↔ j = k := by
  rw [show (1 : Int64) = lN 1 from rfl, wb_shl 1 hk, Nat.one_mul, go_m_lN (wb_lt2 hk), Nat.testBit_two_pow]
  simp [eq_comm]
theorem go_m_r (x : Int64) {k : Nat} (hk : k < 64) (j : Nat) : go_m ((x.toUInt64 >>> ((nI k).toInt64.toUInt64 &&& Int64.toUInt64 63)).toInt64) j ↔ go_m x (j + k) := by
  obtain ⟨n, hn, rfl⟩ := wb_of x
  rw [wb_shr hn hk, go_m_lN (Nat.lt_of_le_of_lt (Nat.div_le_self _ _) hn), go_m_lN hn, Nat.testBit_div_two_pow]
theorem go_m_l (x : Int64) {k : Nat} (hk : k < 64) (j : Nat) : go_m (x <<< ((nI k).toInt64 &&& 63)) j ↔ j < 64 ∧ k ≤ j ∧ go_m x (j - k) := by
  obtain ⟨n, hn, rfl⟩ := wb_of x
  rw [wb_shl n hk, wb_mod, go_m_lN (Nat.mod_lt _ (by decide)), go_m_lN hn, Nat.testBit_mod_two_pow, Nat.testBit_mul_two_pow]
  simp
/-- the test of one point -/
theorem go_m_t (x : Int64) {k : Nat} (hk : k < 64) : ((x.toUInt64 >>> ((nI k).toInt64.toUInt64 &&& Int64.toUInt64 63)).toInt64 &&& 1) = 1 ↔ go_m x k := by
  obtain ⟨n, hn, rfl⟩ := wb_of x
  rw [wb_bit hn hk, go_m_lN hn, Nat.testBit_eq_decide_div_mod_eq]
  have h2 : n / 2 ^ k % 2 < 2 := Nat.mod_lt _ (by decide)
  rw [show (1 : Int64) = lN 1 from rfl, lN_eq (by omega) (by decide)]
  simp
/-- does a set meet one point -/
theorem go_m_bz (x : Int64) {k : Nat} (hk : k < 64) : (x &&& ((1 : Int64) <<< ((nI k).toInt64 &&& 63))) = 0 ↔ ¬ go_m x k := by
  rw [go_m_z]
  constructor
  · intro h hx
    exact h k ((go_m_and _ _ _).mpr ⟨hx, (go_m_b hk k).mpr rfl⟩)
  · intro h j hj
    obtain ⟨h1, h2⟩ := (go_m_and _ _ _).mp hj
    rw [(go_m_b hk j).mp h2] at h1
    exact h h1
def go_ALL : Int64 := 562949953421311
def go_NF : Int64 := 558517276622718
def go_NL : Int64 := 279258638311359
theorem go_m_tab {x : Int64} {P : Nat → Prop} (h : ∀ j, j < 64 → (x.toBitVec.getLsbD j = true ↔ P j)) (hP : ∀ j, P j → j < 64) (j : Nat) : go_m x j ↔ P j := by
  by_cases hj : j < 64
  · exact h j hj
  · exact ⟨fun h1 => absurd (go_m_lt h1) hj, fun h1 => absurd (hP j h1) hj⟩
theorem go_m_ALL (j : Nat) : go_m go_ALL j ↔ j < 49 := go_m_tab (P := fun j => j < 49) (by decide +kernel) (fun j h => by omega) j
theorem go_m_NF (j : Nat) : go_m go_NF j ↔ j < 49 ∧ j % 7 ≠ 0 := go_m_tab (P := fun j => j < 49 ∧ j % 7 ≠ 0) (by decide +kernel) (fun j h => by omega) j
theorem go_m_NL (j : Nat) : go_m go_NL j ↔ j < 49 ∧ j % 7 ≠ 6 := go_m_tab (P := fun j => j < 49 ∧ j % 7 ≠ 6) (by decide +kernel) (fun j h => by omega) j
/-- a set of points of the board -/
def go_in (x : Int64) : Prop := ∀ j, go_m x j → j < 49
def go_ar (x : Int64) : Int64 := ((((x.toUInt64 >>> ((nI 7).toInt64.toUInt64 &&& Int64.toUInt64 63)).toInt64 ||| (x <<< ((nI 7).toInt64 &&& 63))) ||| ((x &&& go_NF).toUInt64 >>> ((nI 1).toInt64.toUInt64 &&& Int64.toUInt64 63)).toInt64) ||| ((x &&& go_NL) <<< ((nI 1).toInt64 &&& 63))) &&& go_ALL
theorem go_ar_m {x : Int64} (hx : go_in x) (j : Nat) : go_m (go_ar x) j ↔ ∃ i, go_m x i ∧ go_ad i j := by
  unfold go_ar
  rw [go_m_and, go_m_or, go_m_or, go_m_or, go_m_r x (by decide), go_m_l x (by decide), go_m_r (x &&& go_NF) (by decide), go_m_l (x &&& go_NL) (by decide), go_m_and, go_m_and, go_m_NF, go_m_NL, go_m_ALL]
  constructor
  · intro ⟨h, hj⟩
    rcases h with ((h | h) | h) | h
    · have := hx _ h
      exact ⟨j + 7, h, by omega, hj, by omega⟩
    · exact ⟨j - 7, h.2.2, by omega, hj, by omega⟩
    · exact ⟨j + 1, h.1, by omega, hj, by omega⟩
    · exact ⟨j - 1, h.2.2.1, by omega, hj, by omega⟩
  · intro ⟨i, h, hi, hj, ha⟩
    refine ⟨?_, hj⟩
    rcases ha with ha | ha | ha | ha
    · subst ha
      exact Or.inl (Or.inl (Or.inl h))
    · refine Or.inl (Or.inl (Or.inr ⟨by omega, by omega, ?_⟩))
      rw [show j - 7 = i by omega]; exact h
    · obtain ⟨ha, h7⟩ := ha
      subst ha
      exact Or.inl (Or.inr ⟨h, by omega, h7⟩)
    · refine Or.inr ⟨by omega, by omega, ?_⟩
      rw [show j - 1 = i by omega]
      exact ⟨h, by omega, by omega⟩
theorem go_ar_in (x : Int64) : go_in (go_ar x) := fun j h => (go_m_ALL j).mp ((go_m_and _ _ _).mp h).2
theorem go_and_in {x y : Int64} (h : go_in y) : go_in (x &&& y) := fun j hj => h j ((go_m_and _ _ _).mp hj).2
theorem go_and_in2 {x y : Int64} (h : go_in x) : go_in (x &&& y) := fun j hj => h j ((go_m_and _ _ _).mp hj).1
theorem go_or_in {x y : Int64} (h : go_in x) (h2 : go_in y) : go_in (x ||| y) := fun j hj => ((go_m_or _ _ _).mp hj).elim (h j) (h2 j)
/-! the lowest point -/
theorem go_low_n {n k : Nat} (hk : n.testBit k = true) (hl : ∀ j, j < k → n.testBit j = false) (j : Nat) : (n - 1).testBit j = if j < k then true else if j = k then false else n.testBit j := by
  have h0 : n % 2 ^ k = 0 := by
    apply Nat.eq_of_testBit_eq
    intro i
    rw [Nat.testBit_mod_two_pow, Nat.zero_testBit]
    by_cases hi : i < k
    · rw [hl i hi, Bool.and_false]
    · simp [hi]
  have h1 : n / 2 ^ k % 2 = 1 := by
    rw [Nat.testBit_eq_decide_div_mod_eq] at hk
    simpa using hk
  have hp : 0 < 2 ^ k := Nat.two_pow_pos k
  obtain ⟨m, hm⟩ : ∃ m, n / 2 ^ k = 2 * m + 1 := ⟨n / 2 ^ k / 2, by omega⟩
  have hn : n = 2 ^ k * (2 * m + 1) + 0 := by
    have := Nat.div_add_mod n (2 ^ k)
    rw [h0, hm] at this
    exact this.symm
  have hn1 : n - 1 = 2 ^ k * (2 * m) + (2 ^ k - 1) := by
    rw [hn, Nat.mul_add, Nat.mul_one]
    omega
  rw [hn1, Nat.testBit_two_pow_mul_add _ (by omega)]
  by_cases c1 : j < k
  · rw [if_pos c1, if_pos c1, Nat.testBit_two_pow_sub_one]
    simp [c1]
  · rw [if_neg c1, if_neg c1]
    by_cases c2 : j = k
    · rw [if_pos c2, c2, Nat.sub_self, Nat.testBit_zero]
      simp
    · rw [if_neg c2, hn, Nat.testBit_two_pow_mul_add _ hp, if_neg c1]
      obtain ⟨i, hi⟩ : ∃ i, j - k = i + 1 := ⟨j - k - 1, by omega⟩
      rw [hi, Nat.testBit_add_one, Nat.testBit_add_one, show 2 * m / 2 = m by omega, show (2 * m + 1) / 2 = m by omega]
theorem go_neg (n : Nat) (h0 : 0 < n) (h : n < 2 ^ 64) : -(lN n) = (lN (n - 1)) ^^^ (-1) := by
  have h1 : (-1 : Int64).toBitVec = BitVec.allOnes 64 := by decide +kernel
  apply wb_inj
  rw [Int64.toBitVec_xor, h1, BitVec.xor_allOnes, Int64.toBitVec_neg]
  apply BitVec.eq_of_toNat_eq
  rw [BitVec.toNat_not, wb_tn (by omega), BitVec.toNat_neg, wb_tn h]
  omega
theorem go_low {x : Int64} (h : ¬ x = 0) : ∃ k, go_m x k ∧ (∀ j, j < k → ¬ go_m x j) ∧ (∀ j, go_m (x &&& -x) j ↔ j = k) ∧ ∀ j, go_m (x &&& (x - 1)) j ↔ go_m x j ∧ j ≠ k := by
  obtain ⟨k, hk, hl⟩ := pk_least (go_m x) (go_m_nz h)
  refine ⟨k, hk, hl, ?_⟩
  obtain ⟨n, hn, rfl⟩ := wb_of x
  have hk2 := (go_m_lN hn).mp hk
  have hn0 : 0 < n := by
    rcases Nat.eq_zero_or_pos n with e | e
    · rw [e, Nat.zero_testBit] at hk2; cases hk2
    · exact e
  have hb := go_low_n hk2 (fun j hj => by
    cases e : n.testBit j with
    | false => rfl
    | true => exact absurd ((go_m_lN hn).mpr e) (hl j hj))
  have hs : lN n - 1 = lN (n - 1) := by
    rw [show (1 : Int64) = lN 1 from rfl]
    exact lN_sub hn0
  constructor
  · intro j
    rw [go_neg n hn0 hn, go_m_off, go_m_lN hn, go_m_lN (show n - 1 < 2 ^ 64 by omega), hb j]
    constructor
    · intro ⟨h1, h2⟩
      by_cases c1 : j < k
      · rw [if_pos c1] at h2
        exact absurd rfl h2
      · rw [if_neg c1] at h2
        by_cases c2 : j = k
        · exact c2
        · rw [if_neg c2] at h2
          exact absurd h1 h2
    · intro e
      subst e
      refine ⟨hk2, ?_⟩
      rw [if_neg (Nat.lt_irrefl _), if_pos rfl]
      exact fun h => by cases h
  · intro j
    rw [hs, go_m_and, go_m_lN hn, go_m_lN (show n - 1 < 2 ^ 64 by omega), hb j]
    constructor
    · intro ⟨h1, h2⟩
      refine ⟨h1, fun e => ?_⟩
      rw [e, if_neg (Nat.lt_irrefl _), if_pos rfl] at h2
      cases h2
    · intro ⟨h1, h2⟩
      refine ⟨h1, ?_⟩
      by_cases c1 : j < k
      · rw [if_pos c1]
      · rw [if_neg c1, if_neg h2]
        exact h1
/-- just one point -/
theorem go_one {x : Int64} (hx : go_in x) (h : ¬ x = 0) : (x &&& (x - 1)) = 0 ↔ go_cnt (go_m x) 49 = 1 := by
  obtain ⟨k, hk, -, -, hp⟩ := go_low h
  rw [go_m_z, go_cnt_u]
  constructor
  · intro h1
    refine ⟨k, hx k hk, hk, fun j _ hj => ?_⟩
    by_cases e : j = k
    · exact e
    · exact absurd ((hp j).mpr ⟨hj, e⟩) (h1 j)
  · intro ⟨i, _, _, hu⟩ j hj
    obtain ⟨h1, h2⟩ := (hp j).mp hj
    exact h2 ((hu j (hx j h1) h1).trans (hu k (hx k hk) hk).symm)
end
section
/-! worlds of the two classes; a method's entry; calls; returns; array cells by a Nat index -/
abbrev go_cl : List vw_C := [(RX0, TX0, 13), (RX1, TX1, 9)]
abbrev go_Gf (b : Nat → Nat) (bl wh : Int64) (cn bt wt : Int32) (tb tw : Int64) : List Value := [.long go_ALL, .long go_NF, .long go_NL, .long bl, .long wh, .int cn, .ref (b 1), .ref (b 2), .ref (b 3), .int bt, .int wt, .long tb, .long tw]
/-- GoBoard's world: the object and its three arrays -/
abbrev go_G (b : Nat → Nat) (cs : Nat → ClassId) (bl wh : Int64) (cn : Int32) (ob ow : Nat → Int64) (ot : Nat → Int32) (bt wt : Int32) (tb tw : Int64) : va_W := [(b 0, .inr (0, go_Gf b bl wh cn bt wt tb tw)), (b 1, .inl (cs 1, 40, .inr (.inl ob))), (b 2, .inl (cs 2, 40, .inr (.inl ow))), (b 3, .inl (cs 3, 40, .inl ot))]
abbrev go_Gt (cs : Nat → ClassId) : List (ClassId × FieldType) := [(cs 1, .long), (cs 2, .long), (cs 3, .int)]
/-- GoBoardModel's world: the object and its eight arrays -/
abbrev go_M (b : Nat → Nat) (cs : Nat → ClassId) (bd hi hf hs : Nat → Int32) (dn : Int32) (cp rc dd kp : Nat → Int32) : va_W := [(b 0, .inr (1, [.ref (b 1), .ref (b 2), .ref (b 3), .ref (b 4), .int dn, .ref (b 5), .ref (b 6), .ref (b 7), .ref (b 8)])), (b 1, .inl (cs 1, 49, .inl bd)), (b 2, .inl (cs 2, 1960, .inl hi)), (b 3, .inl (cs 3, 40, .inl hf)), (b 4, .inl (cs 4, 40, .inl hs)), (b 5, .inl (cs 5, 2, .inl cp)), (b 6, .inl (cs 6, 49, .inl rc)), (b 7, .inl (cs 7, 49, .inl dd)), (b 8, .inl (cs 8, 49, .inl kp))]
abbrev go_Mt (cs : Nat → ClassId) : List (ClassId × FieldType) := [(cs 1, .int), (cs 2, .int), (cs 3, .int), (cs 4, .int), (cs 5, .int), (cs 6, .boolean), (cs 7, .int), (cs 8, .int)]
/-- the start of a method that writes nothing -/
def go_pP (D : va_G) (w : va_W) (tys : List (ClassId × FieldType)) (av : List Value) : Array Value → State → Prop := va_Pc av (fun U => va_P D go_cl w U.heap ∧ va_K D go_cl tys U)
theorem go_pP_blind {D : va_G} {w : va_W} {tys : List (ClassId × FieldType)} {av : List Value} : FrameBlind (go_pP D w tys av) := fun a U g mk q => by
  obtain ⟨q0, qP, qK⟩ := q
  exact ⟨q0, qP, va_K.moved (u := U) (U := U.calling g mk a) (Vm.Alike.refl U.vm) qK⟩
abbrev go_pQi (post : Int32 → Prop) : Array Value → State → Outcome → State → Prop := va_Qi (fun r (_ : Unit) => post r) (fun _ _ => True) (fun _ => False)
abbrev go_pQl (post : Int64 → Prop) : Array Value → State → Outcome → State → Prop := va_Ql (fun r (_ : Unit) => post r) (fun _ _ => True) (fun _ => False)
/-- the start of a method that may write its world w -/
def go_mP (D : va_G) (w : va_W) (tys : List (ClassId × FieldType)) (sz : Nat) (av : List Value) : Array Value → State → Prop := va_Pc av (fun U => U.heap.size = sz ∧ va_P D go_cl w U.heap ∧ va_K D go_cl tys U ∧ va_D (fun _ => True) w)
theorem go_mP_blind {D : va_G} {w : va_W} {tys : List (ClassId × FieldType)} {sz : Nat} {av : List Value} : FrameBlind (go_mP D w tys sz av) := fun a U g mk q => by
  obtain ⟨q0, q1, qP, qK, qD⟩ := q
  exact ⟨q0, q1, qP, va_K.moved (u := U) (U := U.calling g mk a) (Vm.Alike.refl U.vm) qK, qD⟩
abbrev go_mB {S : Type} (D : va_G) (tys : List (ClassId × FieldType)) (Wd : S → va_W) (A : Nat → Prop) : S → State → Prop := fun u t => va_P D go_cl (Wd u) t.heap ∧ va_K D go_cl tys t ∧ va_D A (Wd u)
abbrev go_mQi {S : Type} (post : Int32 → S → Prop) (D : va_G) (tys : List (ClassId × FieldType)) (Wd : S → va_W) (A : Nat → Prop) : Array Value → State → Outcome → State → Prop := va_Qi post (go_mB D tys Wd A) A
abbrev go_mQv {S : Type} (post : S → Prop) (D : va_G) (tys : List (ClassId × FieldType)) (Wd : S → va_W) (A : Nat → Prop) : Array Value → State → Outcome → State → Prop := va_Qv post (go_mB D tys Wd A) A
/-- what holds all through a method's body -/
def go_Cx (p : Program) (s : State) (m : MethodId) (args : Array Value) (meth : Method) (c : Code) (cc : ByteArray) (maxL : Nat) (ret : Option FieldType) (own : String) : Prop :=
  p.tables.exec = Jvm.exec ∧ c.code = cc ∧ c.maxLocals = maxL ∧ meth.sig.returnType = ret ∧ meth.locks = false ∧ s.vm.findClass own = some m.cls ∧ ∀ w ∈ lw_all, w.before args s = true
theorem go_pMet {l : Launch} {y : MethodName} {cc : ByteArray} {maxL : Nat} {ret : Option FieldType} {rm : Room} {D : va_G} {w : va_W} {tys : List (ClassId × FieldType)} {av : List Value} {Qc : Array Value → State → Outcome → State → Prop} (hy : plainName y.cls = true) (hle : (lg_sl av).length ≤ maxL)
    (body : ∀ (p : Program) (e : Env) (s : State) (m : MethodId) (below : List Frame) (meth : Method) (c : Code) (ls : Array Slot), go_Cx p s m av.toArray meth c cc maxL ret y.cls → va_K D go_cl tys s → va_P D go_cl w s.heap → va_S (fun _ => False) s.heap s.heap [] → lv_has ls maxL (lv_args 0 av) → W p l e rm s m av.toArray below meth c s.heap [] 0 0 (MQ below Qc av.toArray s 0 0 (fun _ => False)) (F0 m 0 ls [])) :
    Met l y (ws_ y cc maxL ret) rm (go_pP D w tys av) Qc 0 0 (fun _ => False) := by
  refine Met.ofW (cc := cc) (maxL := maxL) (ret := ret) hy rfl ?_
  intro p e s m args below meth c s₁ B hml hv
  obtain ⟨rfl, hP, hK⟩ := hv
  have hts := atoms_spec (ws := ws_ y cc maxL ret) B.pre
  have hts : ∀ w ∈ lw_all, w.before _ s = true := fun w h => hts w (List.mem_cons_of_mem _ h)
  have hown : s.vm.findClass y.cls = some m.cls := findClass_of_methodNamed B.named
  have hl := lv_entry av (n := maxL) hle
  rw [lg_entry_eq]
  generalize (lg_sl av ++ List.replicate (maxL - (lg_sl av).length) Slot.unset).toArray = ls at hl ⊢
  exact body p e s m below meth c ls ⟨B.exec, B.bytes, hml, B.returns, B.notSynchronized, hown, hts⟩ hK hP va_S.rf hl
theorem go_mMet {l : Launch} {y : MethodName} {cc : ByteArray} {maxL : Nat} {ret : Option FieldType} {rm : Room} {D : va_G} {w : va_W} {tys : List (ClassId × FieldType)} {av : List Value} {Qf : (Nat → Prop) → Array Value → State → Outcome → State → Prop} (hy : plainName y.cls = true) (hle : (lg_sl av).length ≤ maxL)
    (body : ∀ (p : Program) (e : Env) (s : State) (m : MethodId) (below : List Frame) (meth : Method) (c : Code) (ls : Array Slot) (A : Nat → Prop), go_Cx p s m av.toArray meth c cc maxL ret y.cls → va_K D go_cl tys s → va_P D go_cl w s.heap → va_D A w → (∀ q : Nat, s.heap.size ≤ q → A q) → va_S A s.heap s.heap [] → lv_has ls maxL (lv_args 0 av) → W p l e rm s m av.toArray below meth c s.heap [] 0 0 (MQ below (Qf A) av.toArray s 0 0 A) (F0 m 0 ls [])) :
    ∀ sz : Nat, Met l y (ws_ y cc maxL ret) rm (go_mP D w tys sz av) (Qf (va_A w sz)) 0 0 (va_A w sz) := by
  intro sz
  refine Met.ofW (cc := cc) (maxL := maxL) (ret := ret) hy rfl ?_
  intro p e s m args below meth c s₁ B hml hv
  obtain ⟨rfl, hsz, hP, hK, hD0⟩ := hv
  subst hsz
  have hts := atoms_spec (ws := ws_ y cc maxL ret) B.pre
  have hts : ∀ w ∈ lw_all, w.before _ s = true := fun w h => hts w (List.mem_cons_of_mem _ h)
  have hown : s.vm.findClass y.cls = some m.cls := findClass_of_methodNamed B.named
  have hl := lv_entry av (n := maxL) hle
  rw [lg_entry_eq]
  generalize (lg_sl av ++ List.replicate (maxL - (lg_sl av).length) Slot.unset).toArray = ls at hl ⊢
  exact body p e s m below meth c ls (va_A w s.heap.size) ⟨B.exec, B.bytes, hml, B.returns, B.notSynchronized, hown, hts⟩ hK hP (hD0.self (sz := s.heap.size)) (fun q h => Or.inr h) va_S.rf hl
theorem go_cmp0 {x y : Int64} : lg_cmp x y = 0 ↔ x = y := by
  unfold lg_cmp
  by_cases h1 : x > y
  · rw [if_pos h1]
    constructor
    · intro h; exact absurd h (by decide)
    · intro h
      rw [h] at h1
      exact absurd h1 (by simp [Int64.lt_iff_toInt_lt])
  · rw [if_neg h1]
    by_cases h2 : x = y
    · rw [if_pos h2]
      exact ⟨fun _ => h2, fun _ => rfl⟩
    · rw [if_neg h2]
      exact ⟨fun h => absurd h (by decide), fun h => absurd h h2⟩
section GoRows
variable {p : Program} {l : Launch} {e : Env} {R : Room} {s : State} {m : MethodId} {args : Array Value} {below : List Frame} {meth : Method} {c : Code} {H : Heap} {locs : List Loc} {cells slots : Nat} {Q : State → Prop}
variable {cc bytes : ByteArray} {pc nL maxL n index : Nat} {ls : Array Slot} {rest st0 As : List Value} {A : Nat → Prop} {H0 : Heap} {D : va_G} {w : va_W} {tys : List (ClassId × FieldType)} {y : MethodName} {ret ret0 : Option FieldType} {ws : List Cond} {rm : Room} {own C : String} {bA : Nat}
/-- a call of a method that writes nothing, its answer an int -/
theorem go_pcI {post : Int32 → Prop} (X : go_Cx p s m args meth c cc nL ret0 own) (hM : Met l y ws rm (go_pP D w tys (.ref bA :: As)) (go_pQi post) 0 0 (fun _ => False)) (cw : CallW R s args own C index y bytes maxL ret ws rm 0 0 n) (hK : va_K D go_cl tys s) (hPc : va_P D go_cl w H) (hre : ∃ cell : Cell, H[bA]? = some cell ∧ cell.vm.isStatics = false ∧ s.vm.findClass C = some cell.cls) (hn : As.length = n) (hst : st0 = As.reverse ++ .ref bA :: rest) (hl : ls.size = nL) (hW : (rest.map fun v => v.category).sum ≤ 8) (hdg : decode cc pc = .ok (.invokevirtual index, 3)) (hf : cells ≤ R.cells ∧ slots ≤ R.slots) (hS : va_S A H0 H locs)
    (kk : ∀ (r : Int32) (H1 : Heap) (locs1 : List Loc), post r → (∀ w' : va_W, va_P D go_cl w' H → va_P D go_cl w' H1) → va_S A H0 H1 locs1 → W p l e R s m args below meth c H1 locs1 cells slots Q (F0 m (pc + 3) ls (.int r :: rest))) : W p l e R s m args below meth c H locs cells slots Q (F0 m pc ls st0) := by
  obtain ⟨hx, hb, hml, -, -, hown, hts⟩ := X
  subst hst
  refine va_calli (va_runV (As := As) (rest := rest) ⟨hx, hb, hml, hown, hts⟩ hM cw ⟨go_pP_blind, hre, fun U hU hW => ⟨rfl, by rw [hU]; exact hPc, va_K.moved hW.alike hK⟩⟩ rfl hn hl rfl (lv_room hW) hdg hf) hS (fun q _ h => h.elim) (fun q h => h.elim) (fun r u t H1 locs1 ht hvm hw hB hz hk hS1 => ?_)
  exact kk r H1 locs1 hw (fun w' hw' => hw'.kept (fun k q hq => hk q.1 ((hw' k q hq).lt) (fun f => f))) hS1
/-- .. its answer a long -/
theorem go_pcL {post : Int64 → Prop} (X : go_Cx p s m args meth c cc nL ret0 own) (hM : Met l y ws rm (go_pP D w tys (.ref bA :: As)) (go_pQl post) 0 0 (fun _ => False)) (cw : CallW R s args own C index y bytes maxL ret ws rm 0 0 n) (hK : va_K D go_cl tys s) (hPc : va_P D go_cl w H) (hre : ∃ cell : Cell, H[bA]? = some cell ∧ cell.vm.isStatics = false ∧ s.vm.findClass C = some cell.cls) (hn : As.length = n) (hst : st0 = As.reverse ++ .ref bA :: rest) (hl : ls.size = nL) (hW : (rest.map fun v => v.category).sum ≤ 8) (hdg : decode cc pc = .ok (.invokevirtual index, 3)) (hf : cells ≤ R.cells ∧ slots ≤ R.slots) (hS : va_S A H0 H locs)
    (kk : ∀ (r : Int64) (H1 : Heap) (locs1 : List Loc), post r → (∀ w' : va_W, va_P D go_cl w' H → va_P D go_cl w' H1) → va_S A H0 H1 locs1 → W p l e R s m args below meth c H1 locs1 cells slots Q (F0 m (pc + 3) ls (.long r :: rest))) : W p l e R s m args below meth c H locs cells slots Q (F0 m pc ls st0) := by
  obtain ⟨hx, hb, hml, -, -, hown, hts⟩ := X
  subst hst
  refine va_calll (va_runV (As := As) (rest := rest) ⟨hx, hb, hml, hown, hts⟩ hM cw ⟨go_pP_blind, hre, fun U hU hW => ⟨rfl, by rw [hU]; exact hPc, va_K.moved hW.alike hK⟩⟩ rfl hn hl rfl (lv_room hW) hdg hf) hS (fun q _ h => h.elim) (fun q h => h.elim) (fun r u t H1 locs1 ht hvm hw hB hz hk hS1 => ?_)
  exact kk r H1 locs1 hw (fun w' hw' => hw'.kept (fun k q hq => hk q.1 ((hw' k q hq).lt) (fun f => f))) hS1
/-- a call of a method that may write its world w, its answer an int -/
theorem go_mcI {S : Type} {post : Int32 → S → Prop} {Wd : S → va_W} (X : go_Cx p s m args meth c cc nL ret0 own) (hM : ∀ sz : Nat, Met l y ws rm (go_mP D w tys sz (.ref bA :: As)) (go_mQi post D tys Wd (va_A w sz)) 0 0 (va_A w sz)) (cw : CallW R s args own C index y bytes maxL ret ws rm 0 0 n) (hK : va_K D go_cl tys s) (hP : va_P D go_cl w H) (hD : va_D A w) (hA : ∀ q : Nat, H0.size ≤ q → A q) (hre : ∃ cell : Cell, H[bA]? = some cell ∧ cell.vm.isStatics = false ∧ s.vm.findClass C = some cell.cls) (hn : As.length = n) (hst : st0 = As.reverse ++ .ref bA :: rest) (hl : ls.size = nL) (hW : (rest.map fun v => v.category).sum ≤ 8) (hdg : decode cc pc = .ok (.invokevirtual index, 3)) (hf : cells ≤ R.cells ∧ slots ≤ R.slots) (hS : va_S A H0 H locs)
    (kk : ∀ (r : Int32) (u : S) (H1 : Heap) (locs1 : List Loc), post r u → va_P D go_cl (Wd u) H1 → va_D A (Wd u) → va_S A H0 H1 locs1 → (∀ w' : va_W, va_P D go_cl w' H → (∀ (k : Nat) (q : Nat × va_E), w'[k]? = some q → ∀ (k2 : Nat) (q2 : Nat × va_E), w[k2]? = some q2 → q.1 ≠ q2.1) → va_P D go_cl w' H1) → W p l e R s m args below meth c H1 locs1 cells slots Q (F0 m (pc + 3) ls (.int r :: rest))) : W p l e R s m args below meth c H locs cells slots Q (F0 m pc ls st0) := by
  obtain ⟨hx, hb, hml, -, -, hown, hts⟩ := X
  subst hst
  have hF : ∀ q, va_A w H.size q → A q := fun q h => by
    rcases h with ⟨k, e, h⟩ | h
    · exact hD.2 k (q, e) h
    · exact hA q (Nat.le_trans hS.1 h)
  refine va_calli (va_runV (As := As) (rest := rest) ⟨hx, hb, hml, hown, hts⟩ (hM H.size) cw ⟨go_mP_blind, hre, fun U hU hW => ⟨rfl, by rw [hU], by rw [hU]; exact hP, va_K.moved hW.alike hK, hD.weaken (fun _ _ _ _ => trivial)⟩⟩ rfl hn hl rfl (lv_room hW) hdg hf) hS (fun q _ h => hF q h) hF (fun r u t H1 locs1 ht hvm hw hB hz hk hS1 => ?_)
  obtain ⟨hP1, hK1, hD1⟩ := hB
  rw [ht] at hP1
  exact kk r u H1 locs1 hw hP1 (hD1.weaken (fun k q _ h => hF q.1 h)) hS1 (fun w' hw' hap => hw'.kept (fun k q hq => hk q.1 (hw' k q hq).lt (fun h => by
    rcases h with ⟨k2, e2, h⟩ | h
    · exact hap k q hq k2 _ h rfl
    · exact absurd (hw' k q hq).lt (Nat.not_lt.mpr h))))
/-- .. no answer -/
theorem go_mcV {S : Type} {post : S → Prop} {Wd : S → va_W} (X : go_Cx p s m args meth c cc nL ret0 own) (hM : ∀ sz : Nat, Met l y ws rm (go_mP D w tys sz (.ref bA :: As)) (go_mQv post D tys Wd (va_A w sz)) 0 0 (va_A w sz)) (cw : CallW R s args own C index y bytes maxL ret ws rm 0 0 n) (hK : va_K D go_cl tys s) (hP : va_P D go_cl w H) (hD : va_D A w) (hA : ∀ q : Nat, H0.size ≤ q → A q) (hre : ∃ cell : Cell, H[bA]? = some cell ∧ cell.vm.isStatics = false ∧ s.vm.findClass C = some cell.cls) (hn : As.length = n) (hst : st0 = As.reverse ++ .ref bA :: rest) (hl : ls.size = nL) (hW : (rest.map fun v => v.category).sum ≤ 8) (hdg : decode cc pc = .ok (.invokevirtual index, 3)) (hf : cells ≤ R.cells ∧ slots ≤ R.slots) (hS : va_S A H0 H locs)
    (kk : ∀ (u : S) (H1 : Heap) (locs1 : List Loc), post u → va_P D go_cl (Wd u) H1 → va_D A (Wd u) → va_S A H0 H1 locs1 → W p l e R s m args below meth c H1 locs1 cells slots Q (F0 m (pc + 3) ls rest)) : W p l e R s m args below meth c H locs cells slots Q (F0 m pc ls st0) := by
  obtain ⟨hx, hb, hml, -, -, hown, hts⟩ := X
  subst hst
  have hF : ∀ q, va_A w H.size q → A q := fun q h => by
    rcases h with ⟨k, e, h⟩ | h
    · exact hD.2 k (q, e) h
    · exact hA q (Nat.le_trans hS.1 h)
  refine va_callv (va_runV (As := As) (rest := rest) ⟨hx, hb, hml, hown, hts⟩ (hM H.size) cw ⟨go_mP_blind, hre, fun U hU hW => ⟨rfl, by rw [hU], by rw [hU]; exact hP, va_K.moved hW.alike hK, hD.weaken (fun _ _ _ _ => trivial)⟩⟩ rfl hn hl rfl (lv_room hW) hdg hf) hS (fun q _ h => hF q h) hF (fun u t H1 locs1 ht hvm hw hB hz hk hS1 => ?_)
  obtain ⟨hP1, hK1, hD1⟩ := hB
  rw [ht] at hP1
  exact kk u H1 locs1 hw hP1 (hD1.weaken (fun k q _ h => hF q.1 h)) hS1
/-! returns -/
theorem go_pri {post : Int32 → Prop} {v : Int32} (X : go_Cx p s m args meth c cc nL (some .int) own) (hS : va_S (fun _ => False) s.heap H locs) (hdg : decode cc pc = .ok (.ireturn, 1)) (h : post v) : W p l e R s m args below meth c H locs cells slots (MQ below (go_pQi post) args s cells slots (fun _ => False)) (F0 m pc ls [.int v]) := by
  obtain ⟨hx, hb, hml, hr, hlocks, hown, hts⟩ := X
  exact W.iret hx hb hr (fun t ht hW => ⟨⟨v, (), rfl, h, trivial⟩, hS.F ht⟩) hS.2.2 hdg
theorem go_prz {post : Int32 → Prop} {v : Int32} (X : go_Cx p s m args meth c cc nL (some .boolean) own) (hS : va_S (fun _ => False) s.heap H locs) (hdg : decode cc pc = .ok (.ireturn, 1)) (hn : narrow .boolean (.int v) = .int v) (h : post v) : W p l e R s m args below meth c H locs cells slots (MQ below (go_pQi post) args s cells slots (fun _ => False)) (F0 m pc ls [.int v]) := by
  obtain ⟨hx, hb, hml, hr, hlocks, hown, hts⟩ := X
  exact W.zret hx hb hr hn (fun t ht hW => ⟨⟨v, (), rfl, h, trivial⟩, hS.F ht⟩) hS.2.2 hdg
theorem go_prl {post : Int64 → Prop} {v : Int64} (X : go_Cx p s m args meth c cc nL (some .long) own) (hS : va_S (fun _ => False) s.heap H locs) (hdg : decode cc pc = .ok (.lreturn, 1)) (h : post v) : W p l e R s m args below meth c H locs cells slots (MQ below (go_pQl post) args s cells slots (fun _ => False)) (F0 m pc ls [.long v]) := by
  obtain ⟨hx, hb, hml, hr, hlocks, hown, hts⟩ := X
  exact W.lret hx hb hr (fun t ht hW => ⟨⟨v, (), rfl, h, trivial⟩, hS.F ht⟩) hS.2.2 hdg
theorem go_mri {S : Type} {post : Int32 → S → Prop} {Wd : S → va_W} {v : Int32} (X : go_Cx p s m args meth c cc nL (some .int) own) (hK : va_K D go_cl tys s) (hS : va_S A s.heap H locs) (u : S) (hP : va_P D go_cl (Wd u) H) (hD : va_D A (Wd u)) (hdg : decode cc pc = .ok (.ireturn, 1)) (h : post v u) : W p l e R s m args below meth c H locs cells slots (MQ below (go_mQi post D tys Wd A) args s cells slots A) (F0 m pc ls [.int v]) := by
  obtain ⟨hx, hb, hml, hr, hlocks, hown, hts⟩ := X
  exact W.iret hx hb hr (fun t ht hW => ⟨⟨v, u, rfl, h, by rw [ht]; exact hP, va_K.moved hW.alike hK, hD⟩, hS.F ht⟩) hS.2.2 hdg
theorem go_mrv {S : Type} {post : S → Prop} {Wd : S → va_W} (X : go_Cx p s m args meth c cc nL none own) (hK : va_K D go_cl tys s) (hS : va_S A s.heap H locs) (u : S) (hP : va_P D go_cl (Wd u) H) (hD : va_D A (Wd u)) (hdg : decode cc pc = .ok (.return_, 1)) (h : post u) : W p l e R s m args below meth c H locs cells slots (MQ below (go_mQv post D tys Wd A) args s cells slots A) (F0 m pc ls []) := by
  obtain ⟨hx, hb, hml, hr, hlocks, hown, hts⟩ := X
  exact W.vret hx hb hr (fun t ht hW => ⟨⟨u, rfl, h, by rw [ht]; exact hP, va_K.moved hW.alike hK, hD⟩, hS.F ht⟩) hS.2.2 hdg
/-! arrays, by a Nat index -/
variable {a N : Nat} {cA : ClassId} {i x : Int32}
theorem go_ild (hx : p.tables.exec = Jvm.exec) (hb : c.code = cc) (hK : va_K D go_cl tys s) (hP : va_P D go_cl w H) (q0 t0 : Nat) {f : Nat → Int32} (ha : w[q0]? = some (a, .inl (cA, N, .inl f))) (ht : tys[t0]? = some (cA, .int)) (k : Nat) (hi : i = nI k) (hk : k < N) (hN : N < 2 ^ 31) (hdg : decode cc pc = .ok (.iaload, 1))
    (kk : W p l e R s m args below meth c H locs cells slots Q (F0 m (pc + 1) ls (.int (f k) :: rest))) : W p l e R s m args below meth c H locs cells slots Q (F0 m pc ls (.int i :: .ref a :: rest)) := by
  subst hi
  refine va_iald hx hb hK hP q0 t0 ha ht (vp_in_nI hk hN) hdg ?_
  rw [nI_clamp (Nat.lt_trans hk hN)]
  exact kk
theorem go_zld (hx : p.tables.exec = Jvm.exec) (hb : c.code = cc) (hK : va_K D go_cl tys s) (hP : va_P D go_cl w H) (q0 t0 : Nat) {f : Nat → Int32} (ha : w[q0]? = some (a, .inl (cA, N, .inl f))) (ht : tys[t0]? = some (cA, .boolean)) (k : Nat) (hi : i = nI k) (hk : k < N) (hN : N < 2 ^ 31) (hdg : decode cc pc = .ok (.baload, 1))
    (kk : W p l e R s m args below meth c H locs cells slots Q (F0 m (pc + 1) ls (.int (f k) :: rest))) : W p l e R s m args below meth c H locs cells slots Q (F0 m pc ls (.int i :: .ref a :: rest)) := by
  subst hi
  refine va_zald hx hb hK hP q0 t0 ha ht (vp_in_nI hk hN) hdg ?_
  rw [nI_clamp (Nat.lt_trans hk hN)]
  exact kk
theorem go_lld (hx : p.tables.exec = Jvm.exec) (hb : c.code = cc) (hK : va_K D go_cl tys s) (hP : va_P D go_cl w H) (q0 t0 : Nat) {f : Nat → Int64} (ha : w[q0]? = some (a, .inl (cA, N, .inr (.inl f)))) (ht : tys[t0]? = some (cA, .long)) (k : Nat) (hi : i = nI k) (hk : k < N) (hN : N < 2 ^ 31) (hdg : decode cc pc = .ok (.laload, 1))
    (kk : W p l e R s m args below meth c H locs cells slots Q (F0 m (pc + 1) ls (.long (f k) :: rest))) : W p l e R s m args below meth c H locs cells slots Q (F0 m pc ls (.int i :: .ref a :: rest)) := by
  subst hi
  refine va_lald hx hb hK hP q0 t0 ha ht (vp_in_nI hk hN) hdg ?_
  rw [nI_clamp (Nat.lt_trans hk hN)]
  exact kk
theorem go_ist (hx : p.tables.exec = Jvm.exec) (hb : c.code = cc) (hK : va_K D go_cl tys s) (hP : va_P D go_cl w H) (hD : va_D A w) (hS : va_S A H0 H locs) (q0 t0 : Nat) {f : Nat → Int32} (ha : w[q0]? = some (a, .inl (cA, N, .inl f))) (ht : tys[t0]? = some (cA, .int)) (k : Nat) (hi : i = nI k) (hk : k < N) (hN : N < 2 ^ 31) (hdg : decode cc pc = .ok (.iastore, 1))
    (kk : ∀ (f1 : Nat → Int32) (H1 : Heap) (locs1 : List Loc), f1 = upd f k x → va_P D go_cl (w.set q0 (a, .inl (cA, N, .inl f1))) H1 → va_D A (w.set q0 (a, .inl (cA, N, .inl f1))) → va_S A H0 H1 locs1 → W p l e R s m args below meth c H1 locs1 cells slots Q (F0 m (pc + 1) ls rest)) : W p l e R s m args below meth c H locs cells slots Q (F0 m pc ls (.int x :: .int i :: .ref a :: rest)) := by
  subst hi
  refine va_iast hx hb hK hP hD hS q0 t0 ha ht (vp_in_nI hk hN) hdg (fun H1 locs1 h1 h2 h3 => ?_)
  rw [nI_clamp (Nat.lt_trans hk hN)] at h1 h2
  exact kk _ H1 locs1 rfl h1 h2 h3
theorem go_zst (hx : p.tables.exec = Jvm.exec) (hb : c.code = cc) (hK : va_K D go_cl tys s) (hP : va_P D go_cl w H) (hD : va_D A w) (hS : va_S A H0 H locs) (q0 t0 : Nat) {f : Nat → Int32} (ha : w[q0]? = some (a, .inl (cA, N, .inl f))) (ht : tys[t0]? = some (cA, .boolean)) (k : Nat) (hi : i = nI k) (hk : k < N) (hN : N < 2 ^ 31) (hnar : vp_nar .boolean x = x) (hdg : decode cc pc = .ok (.bastore, 1))
    (kk : ∀ (f1 : Nat → Int32) (H1 : Heap) (locs1 : List Loc), f1 = upd f k x → va_P D go_cl (w.set q0 (a, .inl (cA, N, .inl f1))) H1 → va_D A (w.set q0 (a, .inl (cA, N, .inl f1))) → va_S A H0 H1 locs1 → W p l e R s m args below meth c H1 locs1 cells slots Q (F0 m (pc + 1) ls rest)) : W p l e R s m args below meth c H locs cells slots Q (F0 m pc ls (.int x :: .int i :: .ref a :: rest)) := by
  subst hi
  refine va_zast hx hb hK hP hD hS q0 t0 ha ht (vp_in_nI hk hN) hdg (fun H1 locs1 h1 h2 h3 => ?_)
  rw [nI_clamp (Nat.lt_trans hk hN), hnar] at h1 h2
  exact kk _ H1 locs1 rfl h1 h2 h3
theorem go_lst {x : Int64} (hx : p.tables.exec = Jvm.exec) (hb : c.code = cc) (hK : va_K D go_cl tys s) (hP : va_P D go_cl w H) (hD : va_D A w) (hS : va_S A H0 H locs) (q0 t0 : Nat) {f : Nat → Int64} (ha : w[q0]? = some (a, .inl (cA, N, .inr (.inl f)))) (ht : tys[t0]? = some (cA, .long)) (k : Nat) (hi : i = nI k) (hk : k < N) (hN : N < 2 ^ 31) (hdg : decode cc pc = .ok (.lastore, 1))
    (kk : ∀ (f1 : Nat → Int64) (H1 : Heap) (locs1 : List Loc), f1 = vp_updL f k x → va_P D go_cl (w.set q0 (a, .inl (cA, N, .inr (.inl f1)))) H1 → va_D A (w.set q0 (a, .inl (cA, N, .inr (.inl f1)))) → va_S A H0 H1 locs1 → W p l e R s m args below meth c H1 locs1 cells slots Q (F0 m (pc + 1) ls rest)) : W p l e R s m args below meth c H locs cells slots Q (F0 m pc ls (.long x :: .int i :: .ref a :: rest)) := by
  subst hi
  refine va_last hx hb hK hP hD hS q0 t0 ha ht (vp_in_nI hk hN) hdg (fun H1 locs1 h1 h2 h3 => ?_)
  rw [nI_clamp (Nat.lt_trans hk hN)] at h1 h2
  exact kk _ H1 locs1 rfl h1 h2 h3
end GoRows
end
section
/-! the abstract state; what the sets of a move are, on the board behind it -/
abbrev go_A : Type := (Nat → Nat) × Nat × (Nat → Nat → Nat) × Nat × Nat × (Nat → Nat) × (Nat → Nat)
def go_up {α : Type} (f : Nat → α) (k : Nat) (v : α) : Nat → α := fun j => if j = k then v else f j
theorem go_up_s {α : Type} {f : Nat → α} {k : Nat} {v : α} : go_up f k v k = v := if_pos rfl
theorem go_up_n {α : Type} {f : Nat → α} {k j : Nat} {v : α} (h : j ≠ k) : go_up f k v j = f j := if_neg h
noncomputable def go_av (B : Nat → Nat) (n : Nat) (HB : Nat → Nat → Nat) (p q : Nat) : Int32 := go_ite (B q = 2) (go_tv B n HB p q) (-2)
/-- the answer of a move tried -/
noncomputable def go_att (B : Nat → Nat) (n : Nat) (HB : Nat → Nat → Nat) (p q : Int32) : Int32 := go_ite (go_okp p ∧ go_okq q) (go_av B n HB p.toNatClampNeg q.toNatClampNeg) (-1)
theorem go_att_bad {B : Nat → Nat} {n : Nat} {HB : Nat → Nat → Nat} {p q : Int32} (h : ¬ (go_okp p ∧ go_okq q)) : go_att B n HB p q = -1 := by unfold go_att; exact go_ite_f h
theorem go_att_ok {B : Nat → Nat} {n : Nat} {HB : Nat → Nat → Nat} {P K : Nat} (hP : P < 2) (hK : K < 49) : go_att B n HB (nI P) (nI K) = go_av B n HB P K := by
  unfold go_att
  rw [go_ite_t ⟨⟨P, hP, rfl⟩, ⟨K, hK, rfl⟩⟩, nI_clamp (by omega), nI_clamp (by omega)]
theorem go_att_tk {B : Nat → Nat} {n : Nat} {HB : Nat → Nat → Nat} {P K : Nat} (hP : P < 2) (hK : K < 49) (h : ¬ B K = 2) : go_att B n HB (nI P) (nI K) = -2 := by
  rw [go_att_ok hP hK]; unfold go_av; exact go_ite_f h
theorem go_att_tv {B : Nat → Nat} {n : Nat} {HB : Nat → Nat → Nat} {P K : Nat} (hP : P < 2) (hK : K < 49) (h : B K = 2) : go_att B n HB (nI P) (nI K) = go_tv B n HB P K := by
  rw [go_att_ok hP hK]; unfold go_av; exact go_ite_t h
/-- a board as two sets -/
def go_bd (B : Nat → Nat) (bl wh : Int64) : Prop := (∀ j, go_m bl j ↔ j < 49 ∧ B j = 0) ∧ ∀ j, go_m wh j ↔ j < 49 ∧ B j = 1
def go_b2 (B : Nat → Nat) : Prop := ∀ j, j < 49 → B j ≤ 2
theorem go_bd_eq {B B2 : Nat → Nat} {x y x2 y2 : Int64} (h : go_bd B x y) (h2 : go_bd B2 x2 y2) (hb : go_b2 B) (hb2 : go_b2 B2) : (x = x2 ∧ y = y2) ↔ ∀ j, j < 49 → B j = B2 j := by
  constructor
  · intro ⟨e1, e2⟩ j hj
    subst e1; subst e2
    have a0 := (h.1 j).symm.trans (h2.1 j)
    have a1 := (h.2 j).symm.trans (h2.2 j)
    have b1 := hb j hj
    have b2 := hb2 j hj
    by_cases c0 : B j = 0
    · rw [c0, (a0.mp ⟨hj, c0⟩).2]
    · by_cases c1 : B j = 1
      · rw [c1, (a1.mp ⟨hj, c1⟩).2]
      · have d0 : ¬ B2 j = 0 := fun e => c0 (a0.mpr ⟨hj, e⟩).2
        have d1 : ¬ B2 j = 1 := fun e => c1 (a1.mpr ⟨hj, e⟩).2
        omega
  · intro he
    constructor
    · refine go_m_ext (fun j _ => ?_)
      rw [h.1 j, h2.1 j]
      exact ⟨fun ⟨a, b⟩ => ⟨a, by rw [← he j a]; exact b⟩, fun ⟨a, b⟩ => ⟨a, by rw [he j a]; exact b⟩⟩
    · refine go_m_ext (fun j _ => ?_)
      rw [h.2 j, h2.2 j]
      exact ⟨fun ⟨a, b⟩ => ⟨a, by rw [← he j a]; exact b⟩, fun ⟨a, b⟩ => ⟨a, by rw [he j a]; exact b⟩⟩
theorem go_bd_in {B : Nat → Nat} {bl wh : Int64} (h : go_bd B bl wh) : go_in bl ∧ go_in wh := ⟨fun j hj => ((h.1 j).mp hj).1, fun j hj => ((h.2 j).mp hj).1⟩
/-- the stones of a player -/
def go_st (B : Nat → Nat) (P : Nat) (x : Int64) : Prop := ∀ j, go_m x j ↔ j < 49 ∧ B j = P
theorem go_st_in {B : Nat → Nat} {P : Nat} {x : Int64} (h : go_st B P x) : go_in x := fun j hj => ((h j).mp hj).1
theorem go_empty {B : Nat → Nat} {bl wh : Int64} (h : go_bd B bl wh) (hb : go_b2 B) : go_st B 2 (go_ALL &&& ((bl ||| wh) ^^^ (-1))) := by
  intro j
  rw [go_m_off, go_m_ALL, go_m_or, h.1 j, h.2 j]
  constructor
  · intro ⟨h1, h2⟩
    have := hb j h1
    refine ⟨h1, ?_⟩
    have c0 : ¬ B j = 0 := fun e => h2 (Or.inl ⟨h1, e⟩)
    have c1 : ¬ B j = 1 := fun e => h2 (Or.inr ⟨h1, e⟩)
    omega
  · intro ⟨h1, h2⟩
    exact ⟨h1, fun h => by rcases h with ⟨_, e⟩ | ⟨_, e⟩ <;> omega⟩
section Move
variable {B : Nat → Nat} {P K : Nat}
theorem go_put_b2 (hb : go_b2 B) (hP : P < 2) : go_b2 (go_put B K P) := by
  intro j hj
  unfold go_put
  by_cases c : j = K
  · rw [if_pos c]; omega
  · rw [if_neg c]; exact hb j hj
theorem go_tb_b2 (hb : go_b2 B) (hP : P < 2) : go_b2 (go_tb B P K) := by
  intro j hj
  unfold go_tb go_cap
  by_cases c : go_dd (go_put B K P) P j
  · rw [go_ite_t c]; omega
  · rw [go_ite_f c]; exact go_put_b2 hb hP j hj
theorem go_mine {x : Int64} (hP : P < 2) (hK : K < 49) (hx : go_st B P x) : go_st (go_put B K P) P (x ||| ((1 : Int64) <<< ((nI K).toInt64 &&& 63))) := by
  intro j
  rw [go_m_or, go_m_b (by omega), hx j]
  unfold go_put
  by_cases c : j = K
  · rw [if_pos c]; exact ⟨fun _ => ⟨by omega, rfl⟩, fun _ => Or.inr c⟩
  · rw [if_neg c]; exact ⟨fun h => h.elim id (fun e => absurd e c), Or.inl⟩
theorem go_theirs {x : Int64} (hP : P < 2) (h2 : B K = 2) (hx : go_st B (1 - P) x) : go_st (go_put B K P) (1 - P) x := by
  intro j
  rw [hx j]
  unfold go_put
  by_cases c : j = K
  · rw [if_pos c, c, h2]
    exact ⟨fun h => by omega, fun h => by omega⟩
  · rw [if_neg c]
theorem go_open {x y : Int64} {B1 : Nat → Nat} (hb : go_b2 B1) (hP : P < 2) (hx : go_st B1 P x) (hy : go_st B1 (1 - P) y) : go_st B1 2 (go_ALL &&& ((x ||| y) ^^^ (-1))) := by
  intro j
  rw [go_m_off, go_m_ALL, go_m_or, hx j, hy j]
  constructor
  · intro ⟨h1, h2⟩
    have := hb j h1
    refine ⟨h1, ?_⟩
    have c0 : ¬ B1 j = P := fun e => h2 (Or.inl ⟨h1, e⟩)
    have c1 : ¬ B1 j = 1 - P := fun e => h2 (Or.inr ⟨h1, e⟩)
    omega
  · intro ⟨h1, h2⟩
    exact ⟨h1, fun h => by rcases h with ⟨_, e⟩ | ⟨_, e⟩ <;> omega⟩
/-- the stones caught -/
theorem go_caught {y o x : Int64} {B1 : Nat → Nat} (hy : go_st B1 (1 - P) y) (ho : go_st B1 2 o) (hx : ∀ j, go_m x j ↔ go_m y j ∧ ¬ ∃ i a, go_m o i ∧ go_ad i a ∧ go_rc (go_m y) (fun z => z = j) a) (j : Nat) : go_m x j ↔ go_dd B1 P j := by
  rw [hx j, hy j]
  unfold go_dd
  constructor
  · intro ⟨⟨h1, h2⟩, h3⟩
    refine ⟨h1, h2, go_nl_0.mpr (fun ⟨i, k, g1, g2, g3⟩ => h3 ⟨k, i, (ho k).mpr ⟨g2.2.1, g3⟩, go_ad_s g2, ?_⟩)⟩
    refine (go_rc_c (fun a => ?_) (fun a => Iff.rfl) i).mp g1
    rw [hy a, h2]
  · intro ⟨h1, h2, h3⟩
    refine ⟨⟨h1, h2⟩, fun ⟨i, a, g1, g2, g3⟩ => go_nl_0.mp h3 ⟨a, i, ?_, go_ad_s g2, ((ho i).mp g1).2⟩⟩
    refine (go_rc_c (fun a => ?_) (fun a => Iff.rfl) a).mp g3
    rw [hy a, h2]
theorem go_cap_t {B1 : Nat → Nat} {j : Nat} (h : go_dd B1 P j) : go_cap B1 P j = 2 := by unfold go_cap; exact go_ite_t h
theorem go_cap_f {B1 : Nat → Nat} {j : Nat} (h : ¬ go_dd B1 P j) : go_cap B1 P j = B1 j := by unfold go_cap; exact go_ite_f h
theorem go_theirs2 {y x : Int64} {B1 : Nat → Nat} (hP : P < 2) (hy : go_st B1 (1 - P) y) (hx : ∀ j, go_m x j ↔ go_dd B1 P j) : go_st (go_cap B1 P) (1 - P) (y &&& (x ^^^ (-1))) := by
  intro j
  rw [go_m_off, hx j, hy j]
  by_cases c : go_dd B1 P j
  · rw [go_cap_t c]
    exact ⟨fun h => absurd c h.2, fun h => by omega⟩
  · rw [go_cap_f c]
    exact ⟨fun h => h.1, fun h => ⟨h, c⟩⟩
theorem go_mine2 {y : Int64} {B1 : Nat → Nat} (hP : P < 2) (hy : go_st B1 P y) : go_st (go_cap B1 P) P y := by
  intro j
  rw [hy j]
  by_cases c : go_dd B1 P j
  · rw [go_cap_t c]
    have := c.2.1
    exact ⟨fun h => by omega, fun h => by omega⟩
  · rw [go_cap_f c]
theorem go_open2 {o x : Int64} {B1 : Nat → Nat} (ho : go_st B1 2 o) (hx : ∀ j, go_m x j ↔ go_dd B1 P j) : go_st (go_cap B1 P) 2 (o ||| x) := by
  intro j
  rw [go_m_or, hx j, ho j]
  by_cases c : go_dd B1 P j
  · rw [go_cap_t c]
    exact ⟨fun _ => ⟨c.1, rfl⟩, fun _ => Or.inr c⟩
  · rw [go_cap_f c]
    exact ⟨fun h => h.elim id (fun h => absurd h c), Or.inl⟩
theorem go_tb_K (hP : P < 2) : go_tb B P K K = P := by
  have h1 : go_put B K P K = P := if_pos rfl
  unfold go_tb
  rw [go_cap_f (fun h => by have := h.2.1; omega), h1]
/-- a group as a set, its liberties -/
theorem go_libz {g x o : Int64} {B2 : Nat → Nat} {K : Nat} (hx : go_st B2 (B2 K) x) (ho : go_st B2 2 o) (hg : ∀ j, go_m g j ↔ go_rc (go_m x) (fun z => z = K) j) : ∀ j, go_m (go_ar g &&& o) j ↔ go_lb B2 (go_gp B2 K) j := by
  have hg2 : ∀ j, go_m g j ↔ go_gp B2 K j := fun j => (hg j).trans (go_rc_c (fun a => hx a) (fun a => Iff.rfl) j)
  have hin : go_in g := fun j hj => go_gp_lt ((hg2 j).mp hj)
  intro j
  rw [go_m_and, go_ar_m hin, ho j]
  unfold go_lb
  constructor
  · intro ⟨⟨i, h1, h2⟩, h3, h4⟩
    exact ⟨h3, h4, i, (hg2 i).mp h1, h2⟩
  · intro ⟨h3, h4, i, h1, h2⟩
    exact ⟨⟨i, (hg2 i).mpr h1, h2⟩, h3, h4⟩
theorem go_nlz {x : Int64} {B2 : Nat → Nat} {K : Nat} (h : ∀ j, go_m x j ↔ go_lb B2 (go_gp B2 K) j) : x = 0 ↔ go_nl B2 K = 0 := by
  unfold go_nl
  rw [go_m_z, go_cnt_0i]
  exact ⟨fun h1 j _ h2 => h1 j ((h j).mpr h2), fun h1 j h2 => h1 j ((h j).mp h2).1 ((h j).mp h2)⟩
end Move
theorem go_tv_5 {B : Nat → Nat} {n : Nat} {HB : Nat → Nat → Nat} {P K : Nat} (h : go_nl (go_tb B P K) K = 0) : go_tv B n HB P K = -5 := by unfold go_tv; exact go_ite_t h
theorem go_tv_6 {B : Nat → Nat} {n : Nat} {HB : Nat → Nat → Nat} {P K : Nat} (h : ¬ go_nl (go_tb B P K) K = 0) (h2 : 0 < n ∧ ∀ j, j < 49 → go_tb B P K j = HB (n - 1) j) : go_tv B n HB P K = -6 := by unfold go_tv; rw [go_ite_f h]; exact go_ite_t h2
theorem go_tv_k {B : Nat → Nat} {n : Nat} {HB : Nat → Nat → Nat} {P K : Nat} (h : ¬ go_nl (go_tb B P K) K = 0) (h2 : ¬ (0 < n ∧ ∀ j, j < 49 → go_tb B P K j = HB (n - 1) j)) : go_tv B n HB P K = nI (go_tk B P K) := by unfold go_tv; rw [go_ite_f h]; exact go_ite_f h2
theorem go_tk_le (B : Nat → Nat) (P K : Nat) : go_tk B P K ≤ 49 := go_cnt_le _ 49
/-! GoBoard.grown's loop -/
def go_gI (x w : Int64) (k : Nat) (now : Int64) (mo : Int32) : Prop := (∀ j, go_m now j → go_rc (go_m w) (go_m x) j) ∧ (∀ j, go_m x j → go_m w j → go_m now j) ∧ ((mo = nI 1 ∧ k ≤ go_cnt (go_m now) 49) ∨ (mo = nI 0 ∧ ∀ a b, go_m now a → go_ad a b → go_m w b → go_m now b))
theorem go_gI_0 (x w : Int64) : go_gI x w 0 (x &&& w) (nI 1) :=
  ⟨fun j h => by rw [go_m_and] at h; exact go_rc_b h.1 h.2, fun j h1 h2 => (go_m_and _ _ _).mpr ⟨h1, h2⟩, Or.inl ⟨rfl, Nat.zero_le _⟩⟩
theorem go_gI_s {x w now nx : Int64} {k : Nat} {mo : Int32} (hw : go_in w) (h : go_gI x w k now mo) (hmo : ¬ mo = 0) (hn : nx = now ||| (go_ar now &&& w)) : (¬ nx = now → go_gI x w (k + 1) nx (nI 1)) ∧ (nx = now → go_gI x w (k + 1) nx (nI 0)) := by
  obtain ⟨h1, h2, h3⟩ := h
  have hin : go_in now := fun j hj => hw j (go_rc_S (h1 j hj))
  have hnx : ∀ j, go_m nx j ↔ go_m now j ∨ ((∃ i, go_m now i ∧ go_ad i j) ∧ go_m w j) := fun j => by rw [hn, go_m_or, go_m_and, go_ar_m hin]
  have g1 : ∀ j, go_m nx j → go_rc (go_m w) (go_m x) j := fun j hj => by
    rcases (hnx j).mp hj with h | ⟨⟨i, h4, h5⟩, h6⟩
    · exact h1 j h
    · exact go_rc_s (h1 i h4) h5 h6
  have g2 : ∀ j, go_m x j → go_m w j → go_m nx j := fun j a b => (hnx j).mpr (Or.inl (h2 j a b))
  constructor
  · intro hne
    refine ⟨g1, g2, Or.inl ⟨rfl, ?_⟩⟩
    rcases h3 with ⟨_, h3⟩ | ⟨h3, _⟩
    · have hex : ∃ j, go_m nx j ∧ ¬ go_m now j := by
        by_cases c : ∃ j, go_m nx j ∧ ¬ go_m now j
        · exact c
        · refine absurd (go_m_ext (fun j _ => ⟨fun hj => ?_, fun hj => (hnx j).mpr (Or.inl hj)⟩)) hne
          by_cases d : go_m now j
          · exact d
          · exact absurd ⟨j, hj, d⟩ c
      obtain ⟨j, hj1, hj2⟩ := hex
      have := go_cnt_lt (P := go_m now) (Q := go_m nx) (k := j) (n := 49) (fun j _ h => (hnx j).mpr (Or.inl h)) (hw j (go_rc_S (g1 j hj1))) hj1 hj2
      omega
    · exact absurd h3 hmo
  · intro he
    refine ⟨g1, g2, Or.inr ⟨rfl, fun a b ha hab hb => ?_⟩⟩
    rw [he] at ha
    exact (hnx b).mpr (Or.inr ⟨⟨a, ha, hab⟩, hb⟩)
theorem go_gI_e {x w now : Int64} {k : Nat} {mo : Int32} (h : go_gI x w k now mo) (he : 50 ≤ k ∨ mo = 0) : ∀ j, go_m now j ↔ go_rc (go_m w) (go_m x) j := by
  obtain ⟨h1, h2, h3⟩ := h
  refine go_rc_eq h2 h1 ?_
  rcases h3 with ⟨h3, h4⟩ | ⟨_, h4⟩
  · rcases he with he | he
    · have := go_cnt_le (go_m now) 49
      omega
    · exact absurd (h3.symm.trans he) (by decide)
  · exact h4
end
section
/-! the abstract state's parts, the answers of both classes, GoBoard's and GoBoardModel's states against it -/
abbrev go_B (a : go_A) : Nat → Nat := a.1
abbrev go_n (a : go_A) : Nat := a.2.1
abbrev go_HB (a : go_A) : Nat → Nat → Nat := a.2.2.1
abbrev go_c0 (a : go_A) : Nat := a.2.2.2.1
abbrev go_c1 (a : go_A) : Nat := a.2.2.2.2.1
abbrev go_T0 (a : go_A) : Nat → Nat := a.2.2.2.2.2.1
abbrev go_T1 (a : go_A) : Nat → Nat := a.2.2.2.2.2.2
/-- how many stones -/
noncomputable def go_ns (B : Nat → Nat) : Nat := go_cnt (fun j => B j ≠ 2) 49
def go_AI (a : go_A) : Prop := go_b2 (go_B a) ∧ go_n a ≤ 40 ∧ (∀ i, i < go_n a → go_b2 (go_HB a i)) ∧ go_c0 a + go_c1 a + go_ns (go_B a) ≤ 49 + go_n a ∧ ∀ i, i < go_n a → go_T0 a i + go_T1 a i + go_ns (go_HB a i) ≤ 49 + i
def go_GI (a : go_A) (bl wh : Int64) (cn : Int32) (ob ow : Nat → Int64) (ot : Nat → Int32) (bt wt : Int32) : Prop :=
  go_bd (go_B a) bl wh ∧ cn = nI (go_n a) ∧ (∀ i, i < go_n a → go_bd (go_HB a i) (ob i) (ow i)) ∧ (∀ i, i < go_n a → ot i = nI (go_T0 a i * 1000 + go_T1 a i)) ∧ bt = nI (go_c0 a) ∧ wt = nI (go_c1 a)
def go_MI (a : go_A) (bd hi hf hs : Nat → Int32) (dn : Int32) (cp : Nat → Int32) : Prop :=
  (∀ j, j < 49 → bd j = nI (go_B a j)) ∧ (∀ i, i < go_n a → ∀ j, j < 49 → hi (49 * i + j) = nI (go_HB a i j)) ∧ (∀ i, i < go_n a → hf i = nI (go_T0 a i)) ∧ (∀ i, i < go_n a → hs i = nI (go_T1 a i)) ∧ dn = nI (go_n a) ∧ cp 0 = nI (go_c0 a) ∧ cp 1 = nI (go_c1 a)
noncomputable def go_onq (f : Nat → Int32) (q : Int32) : Int32 := go_ite (go_okq q) (f q.toNatClampNeg) (-1)
theorem go_onq_y {f : Nat → Int32} {K : Nat} (h : K < 49) : go_onq f (nI K) = f K := by
  unfold go_onq
  rw [go_ite_t ⟨K, h, rfl⟩, nI_clamp (by omega)]
theorem go_onq_n {f : Nat → Int32} {q : Int32} (h : ¬ go_okq q) : go_onq f q = -1 := by unfold go_onq; exact go_ite_f h
noncomputable def go_onp (f : Nat → Int32) (q : Int32) : Int32 := go_ite (go_okp q) (f q.toNatClampNeg) (-1)
theorem go_onp_y {f : Nat → Int32} {K : Nat} (h : K < 2) : go_onp f (nI K) = f K := by
  unfold go_onp
  rw [go_ite_t ⟨K, h, rfl⟩, nI_clamp (by omega)]
theorem go_onp_n {f : Nat → Int32} {q : Int32} (h : ¬ go_okp q) : go_onp f q = -1 := by unfold go_onp; exact go_ite_f h
noncomputable def go_aAt (B : Nat → Nat) (q : Int32) : Int32 := go_onq (fun K => nI (B K)) q
noncomputable def go_aCap (a : go_A) (p : Int32) : Int32 := go_onp (fun P => nI (if P = 0 then go_c0 a else go_c1 a)) p
noncomputable def go_aGs (B : Nat → Nat) (q : Int32) : Int32 := go_onq (fun K => go_ite (B K = 2) (-2) (nI (go_cnt (go_gp B K) 49))) q
noncomputable def go_aLib (B : Nat → Nat) (q : Int32) : Int32 := go_onq (fun K => go_ite (B K = 2) (-2) (nI (go_nl B K))) q
noncomputable def go_aReg (B : Nat → Nat) (q : Int32) : Int32 := go_onq (fun K => go_ite (B K = 2) (nI (go_cnt (go_gp B K) 49)) (-2)) q
noncomputable def go_aMov (B : Nat → Nat) (n : Nat) (HB : Nat → Nat → Nat) (p : Int32) : Int32 := go_ite (go_okp p) (nI (go_cnt (fun j => 0 ≤ go_att B n HB p (nI j)) 49)) (-1)
/-- the least of its group -/
def go_hd (B : Nat → Nat) (P j : Nat) : Prop := j < 49 ∧ B j = P ∧ ∀ i, go_gp B j i → j ≤ i
noncomputable def go_aGrp (B : Nat → Nat) (p : Int32) : Int32 := go_onp (fun P => nI (go_cnt (go_hd B P) 49)) p
def go_at1 (B : Nat → Nat) (P j : Nat) : Prop := j < 49 ∧ B j = P ∧ go_nl B j = 1
noncomputable def go_aAta (B : Nat → Nat) (p : Int32) : Int32 := go_onp (fun P => nI (go_cnt (go_at1 B P) 49)) p
/-- j's group is beside a stone of P -/
def go_tc (B : Nat → Nat) (P j : Nat) : Prop := ∃ i k, go_gp B j i ∧ go_ad i k ∧ B k = P
def go_sc (B : Nat → Nat) (P j : Nat) : Prop := j < 49 ∧ (B j = P ∨ (B j = 2 ∧ go_tc B P j ∧ ¬ go_tc B (1 - P) j))
noncomputable def go_aSc (B : Nat → Nat) (p : Int32) : Int32 := go_onp (fun P => nI (go_cnt (go_sc B P) 49)) p
/-! moves that change the state -/
noncomputable def go_aPlay (a : go_A) (p q : Int32) : Int32 := go_ite (go_okp p ∧ go_okq q) (go_ite (go_B a q.toNatClampNeg = 2) (go_ite (go_n a = 40) (-3) (go_tv (go_B a) (go_n a) (go_HB a) p.toNatClampNeg q.toNatClampNeg)) (-2)) (-1)
noncomputable def go_new (a : go_A) (P K : Nat) : go_A := (go_tb (go_B a) P K, go_n a + 1, go_up (go_HB a) (go_n a) (go_B a), go_c0 a + (if P = 0 then go_tk (go_B a) P K else 0), go_c1 a + (if P = 0 then 0 else go_tk (go_B a) P K), go_up (go_T0 a) (go_n a) (go_c0 a), go_up (go_T1 a) (go_n a) (go_c1 a))
noncomputable def go_sPlay (a : go_A) (p q : Int32) : go_A := go_ite ((go_okp p ∧ go_okq q) ∧ go_B a q.toNatClampNeg = 2 ∧ go_n a ≠ 40 ∧ 0 ≤ go_tv (go_B a) (go_n a) (go_HB a) p.toNatClampNeg q.toNatClampNeg) (go_new a p.toNatClampNeg q.toNatClampNeg) a
noncomputable def go_aPass (a : go_A) : Int32 := go_ite (go_n a = 40) (-3) (nI (go_n a + 1))
noncomputable def go_sPass (a : go_A) : go_A := go_ite (go_n a = 40) a (go_B a, go_n a + 1, go_up (go_HB a) (go_n a) (go_B a), go_c0 a, go_c1 a, go_up (go_T0 a) (go_n a) (go_c0 a), go_up (go_T1 a) (go_n a) (go_c1 a))
noncomputable def go_aUndo (a : go_A) : Int32 := go_ite (go_n a = 0) (-2) (nI (go_n a - 1))
noncomputable def go_sUndo (a : go_A) : go_A := go_ite (go_n a = 0) a (go_HB a (go_n a - 1), go_n a - 1, go_HB a, go_T0 a (go_n a - 1), go_T1 a (go_n a - 1), go_T0 a, go_T1 a)
/-- set's first argument: a player, or 2 -/
def go_ok3 (p : Int32) : Prop := ∃ j : Nat, j < 3 ∧ p = nI j
noncomputable def go_aSet (a : go_A) (p q : Int32) : Int32 := go_ite (go_ok3 p ∧ go_okq q) (go_ite (go_B a q.toNatClampNeg = 2 ↔ p.toNatClampNeg < 2) 0 (-2)) (-1)
noncomputable def go_sSet (a : go_A) (p q : Int32) : go_A := go_ite ((go_ok3 p ∧ go_okq q) ∧ (go_B a q.toNatClampNeg = 2 ↔ p.toNatClampNeg < 2)) (go_put (go_B a) q.toNatClampNeg p.toNatClampNeg, 0, go_HB a, 0, 0, go_T0 a, go_T1 a) a
/-! the state's invariant is kept -/
theorem go_ns_le (B : Nat → Nat) : go_ns B ≤ 49 := go_cnt_le _ 49
theorem go_ns_put {B : Nat → Nat} {K P : Nat} : go_ns (go_put B K P) ≤ go_ns B + 1 := by
  unfold go_ns
  by_cases hK : K < 49
  · by_cases h2 : B K = 2
    · have h1 : go_cnt (fun j => B j ≠ 2 ∨ j = K) 49 = go_cnt (fun j => B j ≠ 2) 49 + 1 := go_cnt_ins hK (fun h => h h2) (fun j _ => Iff.rfl)
      rw [← h1]
      refine go_cnt_sub (fun j _ hj => ?_)
      by_cases c : j = K
      · exact Or.inr c
      · refine Or.inl (fun e => hj ?_)
        unfold go_put
        rw [if_neg c]; exact e
    · refine Nat.le_trans (go_cnt_sub (Q := fun j => B j ≠ 2) (fun j _ hj => ?_)) (Nat.le_succ _)
      by_cases c : j = K
      · rw [c]; exact h2
      · intro e
        refine hj ?_
        unfold go_put
        rw [if_neg c]; exact e
  · refine Nat.le_trans (go_cnt_sub (Q := fun j => B j ≠ 2) (fun j hj49 hj => ?_)) (Nat.le_succ _)
    intro e
    refine hj ?_
    unfold go_put
    rw [if_neg (by omega)]; exact e
theorem go_ns_cap {B : Nat → Nat} {P : Nat} (hP : P < 2) : go_ns (go_cap B P) + go_cnt (go_dd B P) 49 = go_ns B := by
  unfold go_ns
  rw [← go_cnt_add (P := fun j => go_cap B P j ≠ 2) (Q := go_dd B P) (fun j _ h => h.1 (go_cap_t h.2))]
  refine go_cnt_c (fun j _ => ?_)
  by_cases c : go_dd B P j
  · have := c.2.1
    exact ⟨fun _ e => by omega, fun _ => Or.inr c⟩
  · rw [go_cap_f c]
    exact ⟨fun h => h.elim id (fun h => absurd h c), Or.inl⟩
theorem go_AI_new {a : go_A} {P K : Nat} (h : go_AI a) (hP : P < 2) (hn : go_n a ≠ 40) : go_AI (go_new a P K) := by
  obtain ⟨h1, h2, h3, h4, h5⟩ := h
  have e1 := go_ns_cap (B := go_put (go_B a) K P) hP
  have e2 := go_ns_put (B := go_B a) (K := K) (P := P)
  have e3 : go_tk (go_B a) P K = go_cnt (go_dd (go_put (go_B a) K P) P) 49 := rfl
  refine ⟨go_tb_b2 h1 hP, show go_n a + 1 ≤ 40 by omega, fun i hi => ?_, ?_, fun i hi => ?_⟩
  · have hi : i < go_n a + 1 := hi
    show go_b2 (go_up (go_HB a) (go_n a) (go_B a) i)
    by_cases c : i = go_n a
    · rw [c, go_up_s]; exact h1
    · rw [go_up_n c]; exact h3 i (by omega)
  · show go_c0 a + (if P = 0 then go_tk (go_B a) P K else 0) + (go_c1 a + (if P = 0 then 0 else go_tk (go_B a) P K)) + go_ns (go_tb (go_B a) P K) ≤ 49 + (go_n a + 1)
    have e4 : go_ns (go_tb (go_B a) P K) = go_ns (go_cap (go_put (go_B a) K P) P) := rfl
    by_cases c : P = 0
    · rw [if_pos c, if_pos c]; omega
    · rw [if_neg c, if_neg c]; omega
  · have hi : i < go_n a + 1 := hi
    show go_up (go_T0 a) (go_n a) (go_c0 a) i + go_up (go_T1 a) (go_n a) (go_c1 a) i + go_ns (go_up (go_HB a) (go_n a) (go_B a) i) ≤ 49 + i
    by_cases c : i = go_n a
    · rw [c, go_up_s, go_up_s, go_up_s]; exact h4
    · rw [go_up_n c, go_up_n c, go_up_n c]; exact h5 i (by omega)
theorem go_AI_play {a : go_A} {p q : Int32} (h : go_AI a) : go_AI (go_sPlay a p q) := by
  unfold go_sPlay
  by_cases c : (go_okp p ∧ go_okq q) ∧ go_B a q.toNatClampNeg = 2 ∧ go_n a ≠ 40 ∧ 0 ≤ go_tv (go_B a) (go_n a) (go_HB a) p.toNatClampNeg q.toNatClampNeg
  · rw [go_ite_t c]
    obtain ⟨⟨⟨P, hP, rfl⟩, _⟩, _, h2, _⟩ := c
    rw [nI_clamp (by omega)]
    exact go_AI_new h hP h2
  · rw [go_ite_f c]; exact h
theorem go_AI_pass {a : go_A} (h : go_AI a) : go_AI (go_sPass a) := by
  unfold go_sPass
  by_cases c : go_n a = 40
  · rw [go_ite_t c]; exact h
  · rw [go_ite_f c]
    obtain ⟨h1, h2, h3, h4, h5⟩ := h
    refine ⟨h1, show go_n a + 1 ≤ 40 by omega, fun i hi => ?_, show go_c0 a + go_c1 a + go_ns (go_B a) ≤ 49 + (go_n a + 1) by omega, fun i hi => ?_⟩
    · have hi : i < go_n a + 1 := hi
      show go_b2 (go_up (go_HB a) (go_n a) (go_B a) i)
      by_cases c : i = go_n a
      · rw [c, go_up_s]; exact h1
      · rw [go_up_n c]; exact h3 i (by omega)
    · have hi : i < go_n a + 1 := hi
      show go_up (go_T0 a) (go_n a) (go_c0 a) i + go_up (go_T1 a) (go_n a) (go_c1 a) i + go_ns (go_up (go_HB a) (go_n a) (go_B a) i) ≤ 49 + i
      by_cases c : i = go_n a
      · rw [c, go_up_s, go_up_s, go_up_s]; exact h4
      · rw [go_up_n c, go_up_n c, go_up_n c]; exact h5 i (by omega)
theorem go_AI_undo {a : go_A} (h : go_AI a) : go_AI (go_sUndo a) := by
  unfold go_sUndo
  by_cases c : go_n a = 0
  · rw [go_ite_t c]; exact h
  · rw [go_ite_f c]
    obtain ⟨h1, h2, h3, h4, h5⟩ := h
    refine ⟨h3 _ (by omega), show go_n a - 1 ≤ 40 by omega, fun i hi => h3 i ?_, h5 _ (by omega), fun i hi => h5 i ?_⟩
    · have hi : i < go_n a - 1 := hi
      omega
    · have hi : i < go_n a - 1 := hi
      omega
theorem go_AI_set {a : go_A} {p q : Int32} (h : go_AI a) : go_AI (go_sSet a p q) := by
  unfold go_sSet
  by_cases c : (go_ok3 p ∧ go_okq q) ∧ (go_B a q.toNatClampNeg = 2 ↔ p.toNatClampNeg < 2)
  · rw [go_ite_t c]
    obtain ⟨⟨⟨P, hP, rfl⟩, _⟩, _⟩ := c
    rw [nI_clamp (by omega)]
    refine ⟨fun j hj => ?_, Nat.zero_le 40, fun i hi => absurd hi (Nat.not_lt_zero i), ?_, fun i hi => absurd hi (Nat.not_lt_zero i)⟩
    · show go_put (go_B a) q.toNatClampNeg P j ≤ 2
      unfold go_put
      by_cases d : j = q.toNatClampNeg
      · rw [if_pos d]; omega
      · rw [if_neg d]; exact h.1 j hj
    · show 0 + 0 + go_ns (go_put (go_B a) q.toNatClampNeg P) ≤ 49 + 0
      have := go_ns_le (go_put (go_B a) q.toNatClampNeg P)
      omega
  · rw [go_ite_f c]; exact h
theorem go_AI_cap {a : go_A} (h : go_AI a) : go_c0 a < 1000 ∧ go_c1 a < 1000 := by
  obtain ⟨h1, h2, h3, h4, h5⟩ := h
  omega
theorem go_AI_T {a : go_A} (h : go_AI a) {i : Nat} (hi : i < go_n a) : go_T0 a i < 1000 ∧ go_T1 a i < 1000 := by
  obtain ⟨h1, h2, h3, h4, h5⟩ := h
  have := h5 i hi
  omega
/-! both tests of an argument -/
theorem go_bz {P : Prop} {r : Int32} (h : (r = nI 1 ∧ ¬ P) ∨ (r = nI 0 ∧ P)) : (r = 0 → P) ∧ (¬ r = 0 → ¬ P) := by
  rcases h with ⟨h1, h2⟩ | ⟨h1, h2⟩
  · exact ⟨fun e => absurd (h1.symm.trans e) (by decide), fun _ => h2⟩
  · exact ⟨fun _ => h2, fun e => absurd h1 e⟩
theorem go_bo {P : Prop} {r : Int32} (h : (r = nI 1 ∧ P) ∨ (r = nI 0 ∧ ¬ P)) : (r = 0 → ¬ P) ∧ (¬ r = 0 → P) := by
  rcases h with ⟨h1, h2⟩ | ⟨h1, h2⟩
  · exact ⟨fun e => absurd (h1.symm.trans e) (by decide), fun _ => h2⟩
  · exact ⟨fun _ => h2, fun e => absurd h1 e⟩
theorem go_at_c {B : Nat → Nat} {q r : Int32} (hb : go_b2 B) (h : r = go_aAt B q) : (r = -1 → ¬ go_okq q) ∧ (r = nI 2 → ∃ K, K < 49 ∧ q = nI K ∧ B K = 2) ∧ (¬ r = -1 → ¬ r = nI 2 → ∃ K, K < 49 ∧ q = nI K ∧ ¬ B K = 2) := by
  by_cases hq : go_okq q
  · obtain ⟨K, hK, rfl⟩ := hq
    have e : r = nI (B K) := h.trans (go_onq_y hK)
    have hB := hb K hK
    refine ⟨fun e2 => ?_, fun e2 => ⟨K, hK, rfl, ?_⟩, fun _ e2 => ⟨K, hK, rfl, fun e3 => e2 (by rw [e, e3])⟩⟩
    · rw [e] at e2
      have h0 : ¬ nI (B K) < 0 := nI_pos (by omega)
      rw [e2] at h0
      exact absurd (by decide) h0
    · rw [e] at e2
      exact (nI_eq (by omega) (by decide)).mp e2
  · have e : r = -1 := h.trans (go_onq_n hq)
    exact ⟨fun _ => hq, fun e2 => absurd (e.symm.trans e2) (by decide), fun e2 => absurd e e2⟩
/-- a group out of groupAt -/
theorem go_gat {B : Nat → Nat} {bl wh r : Int64} {K : Nat} (h : go_bd B bl wh) (hb : go_b2 B) (hK : K < 49) (h2 : ¬ B K = 2) (hr : (go_m bl K ∧ ∀ j, go_m r j ↔ go_rc (go_m bl) (fun z => z = K) j) ∨ (¬ go_m bl K ∧ ∀ j, go_m r j ↔ go_rc (go_m wh) (fun z => z = K) j)) (j : Nat) : go_m r j ↔ go_gp B K j := by
  have hB := hb K hK
  rcases hr with ⟨h3, h4⟩ | ⟨h3, h4⟩
  · refine (h4 j).trans (go_rc_c (fun a => ?_) (fun a => Iff.rfl) j)
    rw [h.1 a, ((h.1 K).mp h3).2]
  · refine (h4 j).trans (go_rc_c (fun a => ?_) (fun a => Iff.rfl) j)
    have h0 : ¬ B K = 0 := fun e => h3 ((h.1 K).mpr ⟨hK, e⟩)
    rw [h.2 a, show B K = 1 by omega]
theorem go_libs {g o : Int64} {B : Nat → Nat} {K : Nat} (ho : go_st B 2 o) (hg : ∀ j, go_m g j ↔ go_gp B K j) (j : Nat) : go_m (go_ar g &&& o) j ↔ go_lb B (go_gp B K) j := by
  have hin : go_in g := fun j hj => go_gp_lt ((hg j).mp hj)
  rw [go_m_and, go_ar_m hin, ho j]
  unfold go_lb
  constructor
  · intro ⟨⟨i, h1, h2⟩, h3, h4⟩
    exact ⟨h3, h4, i, (hg i).mp h1, h2⟩
  · intro ⟨h3, h4, i, h1, h2⟩
    exact ⟨⟨i, (hg i).mpr h1, h2⟩, h3, h4⟩
/-! groups and inAtari: what is left of a player's stones -/
def go_lf (B : Nat → Nat) (P k : Nat) (x : Int64) : Prop := (∀ j, go_m x j → j < 49 ∧ B j = P) ∧ (∀ a i, go_m x a → go_gp B a i → go_m x i) ∧ k + go_cnt (go_m x) 49 ≤ 49
theorem go_lf_0 {B : Nat → Nat} {P : Nat} {x : Int64} (h : go_st B P x) : go_lf B P 0 x := by
  refine ⟨fun j hj => (h j).mp hj, fun a i ha hg => (h i).mpr ⟨go_gp_lt hg, ?_⟩, ?_⟩
  · rw [go_gp_B hg]; exact ((h a).mp ha).2
  · rw [Nat.zero_add]; exact go_cnt_le _ 49
theorem go_lf_s {B : Nat → Nat} {P k : Nat} {x f g : Int64} (h : go_lf B P k x) (hne : ¬ x = 0) (hf : f = x &&& -x) (hg : ∀ j, go_m g j ↔ go_rc (go_m x) (go_m f) j) : ∃ F, F < 49 ∧ B F = P ∧ go_m x F ∧ (∀ j, j < F → ¬ go_m x j) ∧ (∀ j, go_m g j ↔ go_gp B F j) ∧ go_lf B P (k + 1) (x &&& (g ^^^ (-1))) := by
  obtain ⟨h1, h2, h3⟩ := h
  obtain ⟨F, f1, f2, f3, -⟩ := go_low hne
  obtain ⟨f4, f5⟩ := h1 F f1
  have hgp : ∀ j, go_m g j ↔ go_gp B F j := by
    intro j
    rw [hg j]
    constructor
    · intro hj
      refine go_rc_i (S := go_m x) (T := go_m f) (C := fun j => go_gp B F j) (fun a ta _ => ?_) (fun a c _ ca had sc => ?_) hj
      · rw [hf, f3 a] at ta
        rw [ta]; exact go_gp_q f4
      · exact go_gp_cl ca had (by rw [(h1 c sc).2, f5])
    · intro hj
      refine go_rc_i (S := fun a => a < 49 ∧ B a = B F) (T := fun a => a = F) (C := fun j => go_rc (go_m x) (go_m f) j) (fun a ta _ => ?_) (fun a c ra ca had sc => ?_) hj
      · rw [ta]
        exact go_rc_b (by rw [hf, f3 F]) f1
      · exact go_rc_s ca had (h2 F c f1 (go_rc_s ra had sc))
  refine ⟨F, f4, f5, f1, f2, hgp, fun j hj => h1 j ((go_m_off _ _ _).mp hj).1, fun a i ha hai => ?_, ?_⟩
  · obtain ⟨g1, g2⟩ := (go_m_off _ _ _).mp ha
    refine (go_m_off _ _ _).mpr ⟨h2 a i g1 hai, fun hgi => g2 ?_⟩
    rw [hgp] at hgi ⊢
    exact go_gp_tr hgi (go_gp_sy hai)
  · have := go_cnt_lt (P := go_m (x &&& (g ^^^ (-1)))) (Q := go_m x) (k := F) (n := 49) (fun j _ hj => ((go_m_off _ _ _).mp hj).1) f4 f1 (fun hF => ((go_m_off _ _ _).mp hF).2 ((hgp F).mpr (go_gp_q f4)))
    omega
theorem go_lf_e {B : Nat → Nat} {P k : Nat} {x : Int64} (h : go_lf B P k x) (he : 49 ≤ k ∨ x = 0) (j : Nat) : ¬ go_m x j := by
  rcases he with he | he
  · intro hj
    have := go_cnt_p (h.1 j hj).1 hj
    have := h.2.2
    omega
  · rw [he]; exact go_m_0 j
theorem go_hd_s {B : Nat → Nat} {P F : Nat} {x g : Int64} (f4 : F < 49) (f5 : B F = P) (f1 : go_m x F) (f2 : ∀ j, j < F → ¬ go_m x j) (hcl : ∀ a i, go_m x a → go_gp B a i → go_m x i) (hgp : ∀ j, go_m g j ↔ go_gp B F j) : go_cnt (fun j => go_hd B P j ∧ ¬ go_m (x &&& (g ^^^ (-1))) j) 49 = go_cnt (fun j => go_hd B P j ∧ ¬ go_m x j) 49 + 1 := by
  refine go_cnt_ins f4 (fun h => h.2 f1) (fun j hj => ?_)
  rw [go_m_off, hgp j]
  constructor
  · intro ⟨h1, h2⟩
    by_cases c : go_m x j
    · have hg : go_gp B F j := by
        by_cases d : go_gp B F j
        · exact d
        · exact absurd ⟨c, d⟩ h2
      have a1 := h1.2.2 F (go_gp_sy hg)
      have a2 : ¬ j < F := fun hl => f2 j hl c
      exact Or.inr (by omega)
    · exact Or.inl ⟨h1, c⟩
  · intro h
    rcases h with ⟨h1, h2⟩ | h
    · exact ⟨h1, fun h3 => h2 h3.1⟩
    · subst h
      refine ⟨⟨f4, f5, fun i hi => ?_⟩, fun h3 => h3.2 (go_gp_q f4)⟩
      have a1 := hcl j i f1 hi
      have a2 : ¬ i < j := fun hl => f2 i hl a1
      omega
theorem go_at1_s {B : Nat → Nat} {P F : Nat} {x g : Int64} (f4 : F < 49) (f5 : B F = P) (f1 : go_m x F) (hcl : ∀ a i, go_m x a → go_gp B a i → go_m x i) (hgp : ∀ j, go_m g j ↔ go_gp B F j) : (go_nl B F = 1 → go_cnt (fun j => go_at1 B P j ∧ ¬ go_m (x &&& (g ^^^ (-1))) j) 49 = go_cnt (fun j => go_at1 B P j ∧ ¬ go_m x j) 49 + go_cnt (go_m g) 49) ∧ (¬ go_nl B F = 1 → go_cnt (fun j => go_at1 B P j ∧ ¬ go_m (x &&& (g ^^^ (-1))) j) 49 = go_cnt (fun j => go_at1 B P j ∧ ¬ go_m x j) 49) := by
  constructor
  · intro h1
    rw [← go_cnt_add (P := fun j => go_at1 B P j ∧ ¬ go_m x j) (Q := go_m g) (fun j _ h => h.1.2 (hcl F j f1 ((hgp j).mp h.2)))]
    refine go_cnt_c (fun j hj => ?_)
    rw [go_m_off]
    constructor
    · intro ⟨a1, a2⟩
      by_cases c : go_m x j
      · by_cases d : go_m g j
        · exact Or.inr d
        · exact absurd ⟨c, d⟩ a2
      · exact Or.inl ⟨a1, c⟩
    · intro h
      rcases h with ⟨a1, a2⟩ | h
      · exact ⟨a1, fun h3 => a2 h3.1⟩
      · have hg := (hgp j).mp h
        exact ⟨⟨hj, (go_gp_B hg).trans f5, (go_nl_gp hg).trans h1⟩, fun h3 => h3.2 h⟩
  · intro h1
    refine go_cnt_c (fun j hj => ?_)
    rw [go_m_off]
    constructor
    · intro ⟨a1, a2⟩
      refine ⟨a1, fun c => ?_⟩
      by_cases d : go_m g j
      · exact h1 ((go_nl_gp ((hgp j).mp d)).symm.trans a1.2.2)
      · exact a2 ⟨c, d⟩
    · intro ⟨a1, a2⟩
      exact ⟨a1, fun h3 => a2 h3.1⟩
/-! score -/
theorem go_near {B : Nat → Nat} {P : Nat} {o t x nr : Int64} (ho : go_st B 2 o) (ht : go_st B P t) (hx : x = go_ar t &&& o) (hn : ∀ j, go_m nr j ↔ go_rc (go_m o) (go_m x) j) (j : Nat) : go_m nr j ↔ j < 49 ∧ B j = 2 ∧ go_tc B P j := by
  have hgp : ∀ {y}, j < 49 → B j = 2 → (go_rc (go_m o) (fun z => z = j) y ↔ go_gp B j y) := fun hj h2 => go_rc_c (fun a => by rw [ho a, h2]) (fun a => Iff.rfl) _
  rw [hn j]
  constructor
  · intro h
    obtain ⟨h1, h2⟩ := (ho j).mp (go_rc_S h)
    obtain ⟨y, g1, g2⟩ := go_rc_seed.mp h
    rw [hx, go_m_and, go_ar_m (go_st_in ht)] at g1
    obtain ⟨⟨i, g3, g4⟩, _⟩ := g1
    exact ⟨h1, h2, y, i, (hgp h1 h2).mp g2, go_ad_s g4, ((ht i).mp g3).2⟩
  · intro ⟨h1, h2, y, i, g1, g2, g3⟩
    refine go_rc_seed.mpr ⟨y, ?_, (hgp h1 h2).mpr g1⟩
    rw [hx, go_m_and, go_ar_m (go_st_in ht), ho y]
    exact ⟨⟨i, (ht i).mpr ⟨g2.2.1, g3⟩, go_ad_s g2⟩, go_gp_lt g1, (go_gp_B g1).trans h2⟩
theorem go_score {B : Nat → Nat} {P : Nat} {mi nm nt : Int64} (hP : P < 2) (hm : go_st B P mi) (h1 : ∀ j, go_m nm j ↔ j < 49 ∧ B j = 2 ∧ go_tc B P j) (h2 : ∀ j, go_m nt j ↔ j < 49 ∧ B j = 2 ∧ go_tc B (1 - P) j) (j : Nat) : go_m (mi ||| (nm &&& (nt ^^^ (-1)))) j ↔ go_sc B P j := by
  rw [go_m_or, go_m_off, hm j, h1 j, h2 j]
  unfold go_sc
  constructor
  · intro h
    rcases h with ⟨a1, a2⟩ | ⟨⟨a1, a2, a3⟩, a4⟩
    · exact ⟨a1, Or.inl a2⟩
    · exact ⟨a1, Or.inr ⟨a2, a3, fun h => a4 ⟨a1, a2, h⟩⟩⟩
  · intro ⟨a1, h⟩
    rcases h with h | ⟨a2, a3, a4⟩
    · exact Or.inl ⟨a1, h⟩
    · exact Or.inr ⟨⟨a1, a2, a3⟩, fun h => a4 h.2.2⟩
theorem go_st_of {B : Nat → Nat} {bl wh r : Int64} {P : Nat} (h : go_bd B bl wh) (hP : P < 2) (hr : (nI P = 0 ∧ r = bl) ∨ (¬ nI P = 0 ∧ r = wh)) : go_st B P r := by
  rcases hr with ⟨h1, h2⟩ | ⟨h1, h2⟩
  · have e : P = 0 := (nI_eq (a := P) (b := 0) (by omega) (by decide)).mp h1
    subst e; subst h2
    exact h.1
  · have e : P = 1 := by
      have : P ≠ 0 := fun e => h1 (by rw [e]; rfl)
      omega
    subst e; subst h2
    exact h.2
end
section
/-! the steps play, pass, undo, set on the abstract state, and GoBoard's state behind them -/
theorem go_tv_pos {B : Nat → Nat} {n : Nat} {HB : Nat → Nat → Nat} {P K : Nat} (h : 0 ≤ go_tv B n HB P K) : go_tv B n HB P K = nI (go_tk B P K) := by
  by_cases c1 : go_nl (go_tb B P K) K = 0
  · rw [go_tv_5 c1] at h
    exact absurd h (by decide)
  · by_cases c2 : 0 < n ∧ ∀ j, j < 49 → go_tb B P K j = HB (n - 1) j
    · rw [go_tv_6 c1 c2] at h
      exact absurd h (by decide)
    · exact go_tv_k c1 c2
theorem go_tv_ne {B : Nat → Nat} {n : Nat} {HB : Nat → Nat → Nat} {P K : Nat} : ¬ go_tv B n HB P K = -1 ∧ ¬ go_tv B n HB P K = -2 := by
  by_cases c1 : go_nl (go_tb B P K) K = 0
  · rw [go_tv_5 c1]
    exact ⟨by decide, by decide⟩
  · by_cases c2 : 0 < n ∧ ∀ j, j < 49 → go_tb B P K j = HB (n - 1) j
    · rw [go_tv_6 c1 c2]
      exact ⟨by decide, by decide⟩
    · rw [go_tv_k c1 c2]
      have h0 : ¬ nI (go_tk B P K) < 0 := nI_pos (by have := go_tk_le B P K; omega)
      exact ⟨fun e => h0 (by rw [e]; decide), fun e => h0 (by rw [e]; decide)⟩
theorem go_att_3 {B : Nat → Nat} {n : Nat} {HB : Nat → Nat → Nat} {p q r : Int32} (h : r = go_att B n HB p q) : (r = -1 → ¬ (go_okp p ∧ go_okq q)) ∧ (r = -2 → ∃ P K, P < 2 ∧ K < 49 ∧ p = nI P ∧ q = nI K ∧ ¬ B K = 2) ∧ (¬ r = -1 → ¬ r = -2 → ∃ P K, P < 2 ∧ K < 49 ∧ p = nI P ∧ q = nI K ∧ B K = 2 ∧ r = go_tv B n HB P K) := by
  by_cases hq : go_okp p ∧ go_okq q
  · obtain ⟨⟨P, hP, rfl⟩, ⟨K, hK, rfl⟩⟩ := hq
    by_cases h2 : B K = 2
    · have e := h.trans (go_att_tv hP hK h2)
      exact ⟨fun e2 => absurd (e.symm.trans e2) go_tv_ne.1, fun e2 => absurd (e.symm.trans e2) go_tv_ne.2, fun _ _ => ⟨P, K, hP, hK, rfl, rfl, h2, e⟩⟩
    · have e := h.trans (go_att_tk hP hK h2)
      exact ⟨fun e2 => absurd (e.symm.trans e2) (by decide), fun _ => ⟨P, K, hP, hK, rfl, rfl, h2⟩, fun _ e2 => absurd e e2⟩
  · have e := h.trans (go_att_bad hq)
    exact ⟨fun _ => hq, fun e2 => absurd (e.symm.trans e2) (by decide), fun e2 => absurd e e2⟩
theorem go_play_bad {a : go_A} {p q : Int32} (h : ¬ (go_okp p ∧ go_okq q)) : go_aPlay a p q = -1 ∧ go_sPlay a p q = a := by
  unfold go_aPlay go_sPlay
  exact ⟨go_ite_f h, go_ite_f (fun h2 => h h2.1)⟩
section Play
variable {a : go_A} {P K : Nat}
theorem go_play_ok (hP : P < 2) (hK : K < 49) : go_aPlay a (nI P) (nI K) = go_ite (go_B a K = 2) (go_ite (go_n a = 40) (-3) (go_tv (go_B a) (go_n a) (go_HB a) P K)) (-2) ∧ go_sPlay a (nI P) (nI K) = go_ite (go_B a K = 2 ∧ go_n a ≠ 40 ∧ 0 ≤ go_tv (go_B a) (go_n a) (go_HB a) P K) (go_new a P K) a := by
  have ok : go_okp (nI P) ∧ go_okq (nI K) := ⟨⟨P, hP, rfl⟩, ⟨K, hK, rfl⟩⟩
  unfold go_aPlay go_sPlay
  rw [go_ite_t ok, nI_clamp (by omega), nI_clamp (by omega)]
  exact ⟨rfl, go_ite_c ⟨fun h => h.2, fun h => ⟨ok, h⟩⟩⟩
theorem go_play_tk (hP : P < 2) (hK : K < 49) (h : ¬ go_B a K = 2) : go_aPlay a (nI P) (nI K) = -2 ∧ go_sPlay a (nI P) (nI K) = a := by
  obtain ⟨h1, h2⟩ := go_play_ok (a := a) hP hK
  rw [h1, h2]
  exact ⟨go_ite_f h, go_ite_f (fun h2 => h h2.1)⟩
theorem go_play_full (hP : P < 2) (hK : K < 49) (h : go_B a K = 2) (hn : go_n a = 40) : go_aPlay a (nI P) (nI K) = -3 ∧ go_sPlay a (nI P) (nI K) = a := by
  obtain ⟨h1, h2⟩ := go_play_ok (a := a) hP hK
  rw [h1, h2, go_ite_t h]
  exact ⟨go_ite_t hn, go_ite_f (fun h2 => h2.2.1 hn)⟩
theorem go_play_neg (hP : P < 2) (hK : K < 49) (h : go_B a K = 2) (hn : ¬ go_n a = 40) (h3 : ¬ 0 ≤ go_tv (go_B a) (go_n a) (go_HB a) P K) : go_aPlay a (nI P) (nI K) = go_tv (go_B a) (go_n a) (go_HB a) P K ∧ go_sPlay a (nI P) (nI K) = a := by
  obtain ⟨h1, h2⟩ := go_play_ok (a := a) hP hK
  rw [h1, h2, go_ite_t h]
  exact ⟨go_ite_f hn, go_ite_f (fun h2 => h3 h2.2.2)⟩
theorem go_play_pos (hP : P < 2) (hK : K < 49) (h : go_B a K = 2) (hn : ¬ go_n a = 40) (h3 : 0 ≤ go_tv (go_B a) (go_n a) (go_HB a) P K) : go_aPlay a (nI P) (nI K) = go_tv (go_B a) (go_n a) (go_HB a) P K ∧ go_sPlay a (nI P) (nI K) = go_new a P K := by
  obtain ⟨h1, h2⟩ := go_play_ok (a := a) hP hK
  rw [h1, h2, go_ite_t h]
  exact ⟨go_ite_f hn, go_ite_t ⟨h, hn, h3⟩⟩
end Play
section Push
variable {a : go_A} {bl wh bl2 wh2 : Int64} {cn cn2 bt wt bt2 wt2 : Int32} {ob ow ob2 ow2 : Nat → Int64} {ot ot2 : Nat → Int32}
theorem go_push_b (hG : go_GI a bl wh cn ob ow ot bt wt) (hob : ob2 = vp_updL ob (go_n a) bl) (how : ow2 = vp_updL ow (go_n a) wh) : ∀ i, i < go_n a + 1 → go_bd (go_up (go_HB a) (go_n a) (go_B a) i) (ob2 i) (ow2 i) := by
  intro i hi
  subst hob; subst how
  by_cases c : i = go_n a
  · rw [c, go_up_s, pk_uLs, pk_uLs]; exact hG.1
  · rw [go_up_n c, pk_uLn c, pk_uLn c]; exact hG.2.2.1 i (by omega)
theorem go_push_t (hG : go_GI a bl wh cn ob ow ot bt wt) (hot : ot2 = upd ot (go_n a) (bt * nI 1000 + wt)) : ∀ i, i < go_n a + 1 → ot2 i = nI (go_up (go_T0 a) (go_n a) (go_c0 a) i * 1000 + go_up (go_T1 a) (go_n a) (go_c1 a) i) := by
  intro i hi
  subst hot
  obtain ⟨-, -, -, h4, h5, h6⟩ := hG
  by_cases c : i = go_n a
  · rw [c, go_up_s, go_up_s, pk_us, h5, h6, pk_mul, nI_add]
  · rw [go_up_n c, go_up_n c, pk_un c]; exact h4 i (by omega)
theorem go_GI_new {P K : Nat} (hG : go_GI a bl wh cn ob ow ot bt wt) (hbd : go_bd (go_tb (go_B a) P K) bl2 wh2) (hcn : cn2 = nI (go_n a + 1)) (hob : ob2 = vp_updL ob (go_n a) bl) (how : ow2 = vp_updL ow (go_n a) wh) (hot : ot2 = upd ot (go_n a) (bt * nI 1000 + wt)) (hbt : bt2 = nI (go_c0 a + (if P = 0 then go_tk (go_B a) P K else 0))) (hwt : wt2 = nI (go_c1 a + (if P = 0 then 0 else go_tk (go_B a) P K))) : go_GI (go_new a P K) bl2 wh2 cn2 ob2 ow2 ot2 bt2 wt2 :=
  ⟨hbd, hcn, go_push_b hG hob how, go_push_t hG hot, hbt, hwt⟩
theorem go_GI_pass (hG : go_GI a bl wh cn ob ow ot bt wt) (hn : ¬ go_n a = 40) (hcn : cn2 = nI (go_n a + 1)) (hob : ob2 = vp_updL ob (go_n a) bl) (how : ow2 = vp_updL ow (go_n a) wh) (hot : ot2 = upd ot (go_n a) (bt * nI 1000 + wt)) : go_GI (go_sPass a) bl wh cn2 ob2 ow2 ot2 bt wt := by
  unfold go_sPass
  rw [go_ite_f hn]
  exact ⟨hG.1, hcn, go_push_b hG hob how, go_push_t hG hot, hG.2.2.2.2.1, hG.2.2.2.2.2⟩
theorem go_GI_undo (hG : go_GI a bl wh cn ob ow ot bt wt) (hI : go_AI a) (hn : ¬ go_n a = 0) : go_GI (go_sUndo a) (ob (go_n a - 1)) (ow (go_n a - 1)) (nI (go_n a - 1)) ob ow ot (ot (go_n a - 1) / nI 1000) (ot (go_n a - 1) - ot (go_n a - 1) / nI 1000 * nI 1000) := by
  unfold go_sUndo
  rw [go_ite_f hn]
  have hl : go_n a - 1 < go_n a := by omega
  obtain ⟨t0, t1⟩ := go_AI_T hI hl
  have e := hG.2.2.2.1 _ hl
  refine ⟨hG.2.2.1 _ hl, rfl, fun i hi => hG.2.2.1 i ?_, fun i hi => hG.2.2.2.1 i ?_, ?_, ?_⟩
  · have hi : i < go_n a - 1 := hi
    omega
  · have hi : i < go_n a - 1 := hi
    omega
  · show ot (go_n a - 1) / nI 1000 = nI (go_T0 a (go_n a - 1))
    rw [e, pk_div (by omega) (by decide) (by decide)]
    exact congrArg nI (by omega)
  · show ot (go_n a - 1) - ot (go_n a - 1) / nI 1000 * nI 1000 = nI (go_T1 a (go_n a - 1))
    rw [e, pk_rem (by omega) (by decide) (by decide)]
    exact congrArg nI (by omega)
theorem go_set_bad {p q : Int32} (h : ¬ (go_ok3 p ∧ go_okq q)) : go_aSet a p q = -1 ∧ go_sSet a p q = a := by
  unfold go_aSet go_sSet
  exact ⟨go_ite_f h, go_ite_f (fun h2 => h h2.1)⟩
theorem go_set_ok {P K : Nat} (hP : P < 3) (hK : K < 49) : (¬ (go_B a K = 2 ↔ P < 2) → go_aSet a (nI P) (nI K) = -2 ∧ go_sSet a (nI P) (nI K) = a) ∧ ((go_B a K = 2 ↔ P < 2) → go_aSet a (nI P) (nI K) = 0 ∧ go_sSet a (nI P) (nI K) = (go_put (go_B a) K P, 0, go_HB a, 0, 0, go_T0 a, go_T1 a)) := by
  have ok : go_ok3 (nI P) ∧ go_okq (nI K) := ⟨⟨P, hP, rfl⟩, ⟨K, hK, rfl⟩⟩
  unfold go_aSet go_sSet
  rw [go_ite_t ok, nI_clamp (by omega), nI_clamp (by omega)]
  exact ⟨fun h => ⟨go_ite_f h, go_ite_f (fun h2 => h h2.2)⟩, fun h => ⟨go_ite_t h, go_ite_t ⟨ok, h⟩⟩⟩
theorem go_GI_set {P K : Nat} (hP : P < 3) (hK : K < 49) (h : go_B a K = 2 ↔ P < 2) (hbd : go_bd (go_put (go_B a) K P) bl2 wh2) : go_GI (go_sSet a (nI P) (nI K)) bl2 wh2 (nI 0) ob ow ot (nI 0) (nI 0) := by
  rw [((go_set_ok hP hK).2 h).2]
  exact ⟨hbd, rfl, fun i hi => absurd hi (Nat.not_lt_zero i), fun i hi => absurd hi (Nat.not_lt_zero i), rfl, rfl⟩
end Push
theorem go_ok3_n {q : Int32} (h : q < 0) : ¬ go_ok3 q := fun ⟨j, hj, e⟩ => by rw [e] at h; exact nI_pos (by omega) h
theorem go_ok3_y {q : Int32} (h : ¬ q < 0) (h2 : ¬ nI 2 < q) : go_ok3 q := by
  obtain ⟨j, hj, e⟩ := nI_of h
  rw [e] at h2
  refine ⟨j, ?_, e⟩
  have h4 : ¬ 2 < j := fun h3 => h2 ((nI_ltI (by decide) hj).mpr h3)
  omega
theorem go_ok3_n2 {q : Int32} (h : nI 2 < q) : ¬ go_ok3 q := fun ⟨j, hj, e⟩ => by
  rw [e] at h
  have := (nI_ltI (by decide) (by omega)).mp h
  omega
/-- a stone put on GoBoard's sets, or taken off -/
theorem go_bd_put0 {B : Nat → Nat} {bl wh : Int64} {K : Nat} (h : go_bd B bl wh) (hK : K < 49) (h2 : B K = 2) : go_bd (go_put B K 0) (bl ||| ((1 : Int64) <<< ((nI K).toInt64 &&& 63))) wh :=
  ⟨go_mine (P := 0) (by decide) hK h.1, go_theirs (P := 0) (by decide) h2 h.2⟩
theorem go_bd_put1 {B : Nat → Nat} {bl wh : Int64} {K : Nat} (h : go_bd B bl wh) (hK : K < 49) (h2 : B K = 2) : go_bd (go_put B K 1) bl (wh ||| ((1 : Int64) <<< ((nI K).toInt64 &&& 63))) :=
  ⟨go_theirs (P := 1) (by decide) h2 h.1, go_mine (P := 1) (by decide) hK h.2⟩
theorem go_bd_put2 {B : Nat → Nat} {bl wh : Int64} {K : Nat} (h : go_bd B bl wh) (hK : K < 49) : go_bd (go_put B K 2) (bl &&& (((1 : Int64) <<< ((nI K).toInt64 &&& 63)) ^^^ (-1))) (wh &&& (((1 : Int64) <<< ((nI K).toInt64 &&& 63)) ^^^ (-1))) := by
  constructor
  · intro j
    rw [go_m_off, go_m_b (by omega), h.1 j]
    unfold go_put
    by_cases c : j = K
    · rw [if_pos c]; exact ⟨fun h => absurd c h.2, fun h => by omega⟩
    · rw [if_neg c]; exact ⟨fun h => h.1, fun h => ⟨h, c⟩⟩
  · intro j
    rw [go_m_off, go_m_b (by omega), h.2 j]
    unfold go_put
    by_cases c : j = K
    · rw [if_pos c]; exact ⟨fun h => absurd c h.2, fun h => by omega⟩
    · rw [if_neg c]; exact ⟨fun h => h.1, fun h => ⟨h, c⟩⟩
/-- is there a stone -/
theorem go_stone {B : Nat → Nat} {bl wh : Int64} {K : Nat} (h : go_bd B bl wh) (hb : go_b2 B) (hK : K < 49) : ((bl ||| wh) &&& ((1 : Int64) <<< ((nI K).toInt64 &&& 63))) = 0 ↔ B K = 2 := by
  rw [go_m_bz _ (by omega), go_m_or, h.1 K, h.2 K]
  have := hb K hK
  constructor
  · intro h1
    have a0 : ¬ B K = 0 := fun e => h1 (Or.inl ⟨hK, e⟩)
    have a1 : ¬ B K = 1 := fun e => h1 (Or.inr ⟨hK, e⟩)
    omega
  · intro e h1
    rcases h1 with ⟨_, h1⟩ | ⟨_, h1⟩ <;> omega
end
section
/-! GoBoardModel's loops, plain -/
noncomputable def go_z (P : Prop) : Int32 := go_ite P (nI 1) (nI 0)
theorem go_z_t {P : Prop} (h : P) : go_z P = nI 1 := go_ite_t h
theorem go_z_f {P : Prop} (h : ¬ P) : go_z P = nI 0 := go_ite_f h
theorem go_z_nz {P : Prop} {x : Int32} (e : x = go_z P) : (x = 0 → ¬ P) ∧ (¬ x = 0 → P) := by
  by_cases c : P
  · exact ⟨fun h => absurd ((go_z_t c).symm.trans (e.symm.trans h)) (by decide), fun _ => c⟩
  · exact ⟨fun _ => c, fun h => absurd (e.trans (go_z_f c)) h⟩
theorem go_z_1 {P : Prop} {x : Int32} (e : x = go_z P) : (x = nI 1 → P) ∧ (¬ x = nI 1 → ¬ P) := by
  by_cases c : P
  · exact ⟨fun _ => c, fun h => absurd (e.trans (go_z_t c)) h⟩
  · exact ⟨fun h => absurd ((go_z_f c).symm.trans (e.symm.trans h)) (by decide), fun _ => c⟩
/-- an array of booleans as a set of points -/
def go_za (f : Nat → Int32) (X : Nat → Prop) : Prop := ∀ j, j < 49 → f j = go_z (X j)
/-- an array of ints as a board -/
def go_ba (f : Nat → Int32) (B : Nat → Nat) : Prop := ∀ j, j < 49 → f j = nI (B j)
theorem go_ba_eq {f : Nat → Int32} {B : Nat → Nat} (h : go_ba f B) (hb : go_b2 B) {j w : Nat} (hj : j < 49) (hw : w < 2 ^ 31) : f j = nI w ↔ B j = w := by
  have := hb j hj
  rw [h j hj, nI_eq (by omega) hw]
theorem go_ba_put {f f1 : Nat → Int32} {B : Nat → Nat} {K P : Nat} (h : go_ba f B) (e : f1 = upd f K (nI P)) : go_ba f1 (go_put B K P) := by
  intro j hj
  subst e
  unfold go_put
  by_cases c : j = K
  · rw [c, if_pos rfl, pk_us]
  · rw [if_neg c, pk_un c]; exact h j hj
/-- neighbour's answer -/
def go_nbv (o : Option Nat) : Int32 := match o with
  | none => -1
  | some i => nI i
theorem go_nbv_c {o : Option Nat} {r : Int32} (h : r = go_nbv o) (hb : ∀ i, o = some i → i < 49) : (r < 0 → o = none) ∧ (¬ r < 0 → ∃ i, o = some i ∧ i < 49 ∧ r = nI i) := by
  cases o with
  | none => exact ⟨fun _ => rfl, fun hn => absurd (by rw [h]; decide) hn⟩
  | some i =>
    have hi := hb i rfl
    exact ⟨fun hn => by rw [h] at hn; exact absurd hn (nI_pos (by omega)), fun _ => ⟨i, rfl, hi, h⟩⟩
/-! reachFrom -/
def go_rI (B : Nat → Nat) (J : Nat) (f : Nat → Int32) (ct bf k : Nat) : Prop := (∀ j, j < 49 → f j = nI 0 ∨ f j = nI 1) ∧ f J = nI 1 ∧ (∀ j, j < 49 → f j = nI 1 → go_gp B J j) ∧ ct = go_cnt (fun j => f j = nI 1) 49 ∧ bf ≤ ct ∧ (bf = ct → ∀ j, j < k → ∀ i, i < 49 → f i = nI 1 → go_ad i j → B j = B J → f j = nI 1)
theorem go_rI_0 {B : Nat → Nat} {J : Nat} {f : Nat → Int32} (hJ : J < 49) (h : ∀ j, j < 49 → f j = go_z (j = J)) : go_rI B J f 1 0 49 := by
  refine ⟨fun j hj => ?_, by rw [h J hJ]; exact go_z_t rfl, fun j hj e => ?_, ?_, by decide, fun e => absurd e (by decide)⟩
  · rw [h j hj]
    by_cases c : j = J
    · exact Or.inr (go_z_t c)
    · exact Or.inl (go_z_f c)
  · rw [(go_z_1 (h j hj)).1 e]; exact go_gp_q hJ
  · rw [go_cnt_c (Q := fun j => j = J) (fun j hj => ⟨fun e => (go_z_1 (h j hj)).1 e, fun e => by rw [h j hj]; exact go_z_t e⟩), go_cnt_1 hJ]
theorem go_rI_n {B : Nat → Nat} {J : Nat} {f : Nat → Int32} {ct bf : Nat} (h : go_rI B J f ct bf 49) : go_rI B J f ct ct 0 := by
  obtain ⟨h1, h2, h3, h4, h5, h6⟩ := h
  exact ⟨h1, h2, h3, h4, Nat.le_refl _, fun _ j hj => absurd hj (Nat.not_lt_zero j)⟩
theorem go_rI_skip {B : Nat → Nat} {J : Nat} {f : Nat → Int32} {ct bf k : Nat} (h : go_rI B J f ct bf k) (hk : k < 49) (hc : ¬ f k = 0 ∨ ¬ B k = B J ∨ ¬ ∃ i, go_ad k i ∧ B i = B J ∧ ¬ f i = 0) : go_rI B J f ct bf (k + 1) := by
  obtain ⟨h1, h2, h3, h4, h5, h6⟩ := h
  refine ⟨h1, h2, h3, h4, h5, fun e j hj i hi fi had hB => ?_⟩
  by_cases c : j = k
  · subst c
    rcases hc with hc | hc | hc
    · rcases h1 j hk with e1 | e1
      · exact absurd e1 hc
      · exact e1
    · exact absurd hB hc
    · exact absurd ⟨i, go_ad_s had, go_gp_B (h3 i hi fi), by rw [fi]; decide⟩ hc
  · exact h6 e j (by omega) i hi fi had hB
theorem go_rI_add {B : Nat → Nat} {J : Nat} {f f1 : Nat → Int32} {ct bf k : Nat} (h : go_rI B J f ct bf k) (hk : k < 49) (h0 : f k = 0) (hB : B k = B J) (hex : ∃ i, go_ad k i ∧ B i = B J ∧ ¬ f i = 0) (e : f1 = upd f k (nI 1)) : go_rI B J f1 (ct + 1) bf (k + 1) := by
  obtain ⟨h1, h2, h3, h4, h5, h6⟩ := h
  subst e
  have hkJ : J ≠ k := fun e => by rw [← e, h2] at h0; exact absurd h0 (by decide)
  refine ⟨fun j hj => ?_, ?_, fun j hj => ?_, ?_, by omega, fun e => by omega⟩
  · by_cases c : j = k
    · rw [c, pk_us]; exact Or.inr rfl
    · rw [pk_un c]; exact h1 j hj
  · rw [pk_un hkJ]; exact h2
  · by_cases c : j = k
    · intro _
      obtain ⟨i, g1, g2, g3⟩ := hex
      have fi : f i = nI 1 := by
        rcases h1 i g1.2.1 with e1 | e1
        · exact absurd e1 g3
        · exact e1
      rw [c]
      exact go_gp_cl (h3 i g1.2.1 fi) (go_ad_s g1) hB
    · rw [pk_un c]; exact h3 j hj
  · rw [h4]
    refine (go_cnt_ins (P := fun j => f j = nI 1) (Q := fun j => upd f k (nI 1) j = nI 1) hk (fun e => by rw [h0] at e; exact absurd e (by decide)) (fun j hj => ?_)).symm
    by_cases c : j = k
    · rw [c, pk_us]; exact ⟨fun _ => Or.inr rfl, fun _ => rfl⟩
    · rw [pk_un c]; exact ⟨Or.inl, fun h => h.elim id (fun e => absurd e c)⟩
theorem go_rI_e {B : Nat → Nat} {J : Nat} {f : Nat → Int32} {ct bf : Nat} (hJ : J < 49) (h : go_rI B J f ct bf 49) (hle : ct ≤ bf) : ct = go_cnt (go_gp B J) 49 ∧ go_za f (go_gp B J) := by
  obtain ⟨h1, h2, h3, h4, h5, h6⟩ := h
  have hcl := h6 (by omega)
  have hin : ∀ j, go_gp B J j → f j = nI 1 := by
    intro j hj
    have h7 : j < 49 ∧ f j = nI 1 := by
      refine hj (fun j => j < 49 ∧ f j = nI 1) (fun a ta _ => ?_) (fun a c hc had sc => ⟨sc.1, hcl c sc.1 a hc.1 hc.2 had sc.2⟩)
      rw [ta]; exact ⟨hJ, h2⟩
    exact h7.2
  refine ⟨?_, fun j hj => ?_⟩
  · rw [h4]
    exact go_cnt_c (fun j hj => ⟨h3 j hj, hin j⟩)
  · by_cases c : go_gp B J j
    · rw [hin j c]; exact (go_z_t c).symm
    · rcases h1 j hj with e | e
      · rw [e]; exact (go_z_f c).symm
      · exact absurd (h3 j hj e) c
/-! countLiberties -/
def go_lI (B : Nat → Nat) (X : Nat → Prop) (k d : Nat) (fr : Int32) : Prop := (fr = nI 1 ∧ go_lb B X k) ∨ (fr = nI 0 ∧ ∀ d2, d2 < d → ∀ i, go_nb d2 k = some i → B k = 2 → ¬ X i)
theorem go_lI_0 (B : Nat → Nat) (X : Nat → Prop) (k : Nat) : go_lI B X k 0 (nI 0) := Or.inr ⟨rfl, fun d2 h => absurd h (Nat.not_lt_zero d2)⟩
theorem go_lI_k {B : Nat → Nat} {X : Nat → Prop} {k d : Nat} {fr : Int32} (h : go_lI B X k d fr) (hf : ¬ fr = 0) : go_lI B X k (d + 1) (nI 1) := by
  rcases h with h | h
  · exact Or.inl ⟨rfl, h.2⟩
  · exact absurd h.1 hf
theorem go_lI_y {B : Nat → Nat} {X : Nat → Prop} {k d i : Nat} (hk : k < 49) (hd : d < 4) (h2 : B k = 2) (hn : go_nb d k = some i) (hX : X i) : go_lI B X k (d + 1) (nI 1) :=
  Or.inl ⟨rfl, hk, h2, i, hX, go_ad_s ((go_nb_ad hk).mpr ⟨d, hd, hn⟩)⟩
theorem go_lI_n {B : Nat → Nat} {X : Nat → Prop} {k d : Nat} {fr : Int32} (h : go_lI B X k d fr) (hf : fr = 0) (hn : ∀ i, go_nb d k = some i → B k = 2 → ¬ X i) : go_lI B X k (d + 1) (nI 0) := by
  rcases h with h | h
  · exact absurd (h.1.symm.trans hf) (by decide)
  · refine Or.inr ⟨rfl, fun d2 hd2 => ?_⟩
    by_cases c : d2 = d
    · rw [c]; exact hn
    · exact h.2 d2 (by omega)
theorem go_lI_e {B : Nat → Nat} {X : Nat → Prop} {k d : Nat} {fr : Int32} (hk : k < 49) (h : go_lI B X k d fr) (hd : 4 ≤ d) : (fr = 0 → ¬ go_lb B X k) ∧ (¬ fr = 0 → go_lb B X k) := by
  rcases h with h | h
  · exact ⟨fun e => absurd (h.1.symm.trans e) (by decide), fun _ => h.2⟩
  · refine ⟨fun _ hl => ?_, fun e => absurd h.1 e⟩
    obtain ⟨_, h2, i, h3, h4⟩ := hl
    obtain ⟨d2, g1, g2⟩ := (go_nb_ad hk).mp (go_ad_s h4)
    exact h.2 d2 (by omega) i g2 h2 h3
/-! firstReached -/
def go_fI (X : Nat → Prop) (k f : Nat) : Prop := f < 49 ∧ ((k ≤ f ∧ X f ∧ ∀ j, k ≤ j → j < f → ¬ X j) ∨ ∀ j, k ≤ j → j < 49 → ¬ X j)
theorem go_fI_y {X : Nat → Prop} {k : Nat} (hk : k < 49) (h : X k) : go_fI X k k := ⟨hk, Or.inl ⟨Nat.le_refl k, h, fun j h1 h2 => by omega⟩⟩
theorem go_fI_n {X : Nat → Prop} {k f : Nat} (h : go_fI X (k + 1) f) (hn : ¬ X k) : go_fI X k f := by
  refine ⟨h.1, ?_⟩
  rcases h.2 with ⟨h1, h2, h3⟩ | h2
  · refine Or.inl ⟨by omega, h2, fun j a c => ?_⟩
    by_cases e : j = k
    · rw [e]; exact hn
    · exact h3 j (by omega) c
  · refine Or.inr (fun j a c => ?_)
    by_cases e : j = k
    · rw [e]; exact hn
    · exact h2 j (by omega) c
/-! the model's state behind its steps -/
section MStep
variable {a : go_A} {bd hi hf hs cp bd2 hi2 hf2 hs2 cp2 : Nat → Int32} {dn dn2 : Int32}
theorem go_push_h (hM : go_MI a bd hi hf hs dn cp) (h1 : ∀ j, j < 49 → hi2 (49 * go_n a + j) = bd j) (h2 : ∀ x, x < 49 * go_n a → hi2 x = hi x) : ∀ i, i < go_n a + 1 → ∀ j, j < 49 → hi2 (49 * i + j) = nI (go_up (go_HB a) (go_n a) (go_B a) i j) := by
  intro i hin j hj
  by_cases c : i = go_n a
  · rw [c, go_up_s, h1 j hj]; exact hM.1 j hj
  · rw [go_up_n c, h2 _ (by omega)]; exact hM.2.1 i (by omega) j hj
theorem go_push_f {f f2 : Nat → Int32} {T : Nat → Nat} {n v : Nat} (h : ∀ i, i < n → f i = nI (T i)) (e : f2 = upd f n (nI v)) : ∀ i, i < n + 1 → f2 i = nI (go_up T n v i) := by
  intro i hin
  subst e
  by_cases c : i = n
  · rw [c, go_up_s, pk_us]
  · rw [go_up_n c, pk_un c]; exact h i (by omega)
theorem go_MI_new {P K : Nat} (hM : go_MI a bd hi hf hs dn cp) (hb : go_ba bd2 (go_tb (go_B a) P K)) (hdn : dn2 = nI (go_n a + 1)) (h1 : ∀ j, j < 49 → hi2 (49 * go_n a + j) = bd j) (h2 : ∀ x, x < 49 * go_n a → hi2 x = hi x) (hf' : hf2 = upd hf (go_n a) (cp 0)) (hs' : hs2 = upd hs (go_n a) (cp 1)) (hP : P < 2) (hcp : cp2 = upd cp P (cp P + nI (go_tk (go_B a) P K))) : go_MI (go_new a P K) bd2 hi2 hf2 hs2 dn2 cp2 := by
  obtain ⟨m1, m2, m3, m4, m5, m6, m7⟩ := id hM
  refine ⟨hb, go_push_h hM h1 h2, go_push_f m3 (by rw [hf', m6]), go_push_f m4 (by rw [hs', m7]), hdn, ?_, ?_⟩
  · show cp2 0 = nI (go_c0 a + (if P = 0 then go_tk (go_B a) P K else 0))
    subst hcp
    by_cases c : P = 0
    · subst c
      rw [pk_us, if_pos rfl, m6, nI_add]
    · rw [pk_un (fun e => c e.symm), if_neg c, m6, Nat.add_zero]
  · show cp2 1 = nI (go_c1 a + (if P = 0 then 0 else go_tk (go_B a) P K))
    subst hcp
    by_cases c : P = 0
    · rw [pk_un (by omega), if_pos c, m7, Nat.add_zero]
    · obtain rfl : P = 1 := by omega
      rw [pk_us, if_neg c, m7, nI_add]
theorem go_MI_pass (hM : go_MI a bd hi hf hs dn cp) (hn : ¬ go_n a = 40) (hdn : dn2 = nI (go_n a + 1)) (h1 : ∀ j, j < 49 → hi2 (49 * go_n a + j) = bd j) (h2 : ∀ x, x < 49 * go_n a → hi2 x = hi x) (hf' : hf2 = upd hf (go_n a) (cp 0)) (hs' : hs2 = upd hs (go_n a) (cp 1)) : go_MI (go_sPass a) bd hi2 hf2 hs2 dn2 cp := by
  obtain ⟨m1, m2, m3, m4, m5, m6, m7⟩ := id hM
  unfold go_sPass
  rw [go_ite_f hn]
  exact ⟨m1, go_push_h hM h1 h2, go_push_f m3 (by rw [hf', m6]), go_push_f m4 (by rw [hs', m7]), hdn, m6, m7⟩
theorem go_MI_undo (hM : go_MI a bd hi hf hs dn cp) (hn : ¬ go_n a = 0) (hb : ∀ j, j < 49 → bd2 j = hi (49 * (go_n a - 1) + j)) (h0 : cp2 0 = hf (go_n a - 1)) (h1 : cp2 1 = hs (go_n a - 1)) : go_MI (go_sUndo a) bd2 hi hf hs (nI (go_n a - 1)) cp2 := by
  obtain ⟨m1, m2, m3, m4, m5, m6, m7⟩ := id hM
  have hl : go_n a - 1 < go_n a := by omega
  unfold go_sUndo
  rw [go_ite_f hn]
  refine ⟨fun j hj => (hb j hj).trans (m2 _ hl j hj), fun i hx j hj => m2 i ?_ j hj, fun i hx => m3 i ?_, fun i hx => m4 i ?_, rfl, h0.trans (m3 _ hl), h1.trans (m4 _ hl)⟩
  · have hx : i < go_n a - 1 := hx
    omega
  · have hx : i < go_n a - 1 := hx
    omega
  · have hx : i < go_n a - 1 := hx
    omega
theorem go_MI_set {P K : Nat} (hM : go_MI a bd hi hf hs dn cp) (hP : P < 3) (hK : K < 49) (h : go_B a K = 2 ↔ P < 2) (hb : bd2 = upd bd K (nI P)) (h0 : cp2 0 = nI 0) (h1 : cp2 1 = nI 0) : go_MI (go_sSet a (nI P) (nI K)) bd2 hi hf hs (nI 0) cp2 := by
  rw [((go_set_ok hP hK).2 h).2]
  exact ⟨go_ba_put hM.1 hb, fun i hx => absurd hx (Nat.not_lt_zero i), fun i hx => absurd hx (Nat.not_lt_zero i), fun i hx => absurd hx (Nat.not_lt_zero i), rfl, h0, h1⟩
end MStep
end
section
/-! GoBoard: the methods that write nothing and call none, and grown, dead, groupAt: printed by gen/g1.py -/
theorem go_okq_n {q : Int32} (h : q < 0) : ¬ go_okq q := fun ⟨j, hj, e⟩ => by rw [e] at h; exact nI_pos (by omega) h
theorem go_okq_y {q : Int32} (h : ¬ q < 0) (h2 : q < nI 49) : go_okq q := by
  obtain ⟨j, hj, e⟩ := nI_of h
  rw [e] at h2
  exact ⟨j, (nI_ltI hj (by decide)).mp h2, e⟩
theorem go_okq_n2 {q : Int32} (h : ¬ q < nI 49) : ¬ go_okq q := fun ⟨j, hj, e⟩ => h (by rw [e]; exact nI_lt hj (by decide))
theorem go_okp_n {q : Int32} (h : q < 0) : ¬ go_okp q := fun ⟨j, hj, e⟩ => by rw [e] at h; exact nI_pos (by omega) h
theorem go_okp_y {q : Int32} (h : ¬ q < 0) (h2 : q ≤ nI 1) : go_okp q := by
  obtain ⟨j, hj, e⟩ := nI_of h
  rw [e] at h2
  exact ⟨j, by have := (nI_leI hj (by decide)).mp h2; omega, e⟩
theorem go_okp_n2 {q : Int32} (h : ¬ q ≤ nI 1) : ¬ go_okp q := fun ⟨j, hj, e⟩ => h (by rw [e]; exact nI_le (by omega) (by decide))
theorem go_dead {x o sf al : Int64} (ho : go_in o) (hs : sf = x &&& go_ar o) (ha : ∀ j, go_m al j ↔ go_rc (go_m x) (go_m sf) j) (j : Nat) : go_m (x &&& (al ^^^ (-1))) j ↔ go_m x j ∧ ¬ ∃ i a, go_m o i ∧ go_ad i a ∧ go_rc (go_m x) (fun z => z = j) a := by
  rw [go_m_off, ha j, go_rc_seed]
  constructor
  · intro ⟨h1, h2⟩
    refine ⟨h1, fun ⟨i, a, g1, g2, g3⟩ => h2 ⟨a, ?_, g3⟩⟩
    rw [hs, go_m_and, go_ar_m ho]
    exact ⟨go_rc_S g3, i, g1, g2⟩
  · intro ⟨h1, h2⟩
    refine ⟨h1, fun ⟨a, g1, g3⟩ => ?_⟩
    rw [hs, go_m_and, go_ar_m ho] at g1
    obtain ⟨_, i, g4, g5⟩ := g1
    exact h2 ⟨i, a, g4, g5, g3⟩
section GoG
variable {l : Launch} {D : va_G} {b : Nat → Nat} {cs : Nat → ClassId} {bl wh : Int64} {cn : Int32} {ob ow : Nat → Int64} {ot : Nat → Int32} {bt wt : Int32} {tb tw : Int64}
set_option maxHeartbeats 4000000 in
set_option maxRecDepth 100000 in
/-- all neighbours of a set -/
theorem gX0_around  (xa : Int64)  : Met l yX0_around (ws_ yX0_around cX0_around 11 (some .long)) ({ frames := 0, cells := 0, slots := 0, locals := 0 } : Room) (go_pP D (go_G b cs bl wh cn ob ow ot bt wt tb tw) (go_Gt cs) [.ref (b 0), .long xa]) (go_pQl (fun r => r = go_ar xa)) 0 0 (fun _ => False) := by
  refine go_pMet (by decide) (Nat.le_of_ble_eq_true rfl) ?_
  intro p e s m below meth c ls X hK hP hS hl
  have hl : lv_has ls 11 [(0, .ref (b 0)), (1, .long xa)] := hl
  obtain ⟨hx, hb, hml, hr, hlocks, hown, hts⟩ := id X
  have hP : va_P D go_cl (go_G b cs bl wh cn ob ow ot bt wt tb tw) s.heap := hP
  refine lv_lload_n hx hb dX0_around_0 rfl (lv_at hl 1 rfl) ?_
  refine lv_bipush (v := nI 7) hx hb dX0_around_1 (by decide) ?_
  refine lv_lushr hx hb dX0_around_3 rfl ?_
  refine lv_topl (fun v3 e3 => ?_)
  refine lv_lstore_n (lv' := [(3, .long v3), (0, .ref (b 0)), (1, .long xa)]) hx hb dX0_around_4 rfl hl (by decide) rfl (fun ls hl => ?_)
  refine lv_lload_n hx hb dX0_around_5 rfl (lv_at hl 2 rfl) ?_
  refine lv_bipush (v := nI 7) hx hb dX0_around_6 (by decide) ?_
  refine lv_lshl hx hb dX0_around_8 rfl ?_
  refine lv_topl (fun v8 e8 => ?_)
  refine lv_lstore (lv' := [(5, .long v8), (3, .long v3), (0, .ref (b 0)), (1, .long xa)]) hx hb dX0_around_9 hl (by decide) rfl (fun ls hl => ?_)
  refine lv_lload_n hx hb dX0_around_11 rfl (lv_at hl 3 rfl) ?_
  refine lv_aload_n hx hb dX0_around_12 rfl (lv_at hl 2 rfl) ?_
  refine va_get (D := D) (ci := 0) (v := .long go_NF) (C := RX0) (T := TX0) (N := 13) hx hb hts in_X0 hown hK hP 0 rfl rfl 1 (by decide) (hts _ q38) (fun _ h9 => h9) rfl dX0_around_13 ?_
  refine lv_land hx hb dX0_around_16 ?_
  refine lv_topl (fun v16 e16 => ?_)
  refine lv_iconst (v := nI 1) hx hb dX0_around_17 (by decide) ?_
  refine lv_lushr hx hb dX0_around_18 rfl ?_
  refine lv_topl (fun v18 e18 => ?_)
  refine lv_lstore (lv' := [(7, .long v18), (5, .long v8), (3, .long v3), (0, .ref (b 0)), (1, .long xa)]) hx hb dX0_around_19 hl (by decide) rfl (fun ls hl => ?_)
  refine lv_lload_n hx hb dX0_around_21 rfl (lv_at hl 4 rfl) ?_
  refine lv_aload_n hx hb dX0_around_22 rfl (lv_at hl 3 rfl) ?_
  refine va_get (D := D) (ci := 0) (v := .long go_NL) (C := RX0) (T := TX0) (N := 13) hx hb hts in_X0 hown hK hP 0 rfl rfl 2 (by decide) (hts _ q39) (fun _ h9 => h9) rfl dX0_around_23 ?_
  refine lv_land hx hb dX0_around_26 ?_
  refine lv_topl (fun v26 e26 => ?_)
  refine lv_iconst (v := nI 1) hx hb dX0_around_27 (by decide) ?_
  refine lv_lshl hx hb dX0_around_28 rfl ?_
  refine lv_topl (fun v28 e28 => ?_)
  refine lv_lstore (lv' := [(9, .long v28), (7, .long v18), (5, .long v8), (3, .long v3), (0, .ref (b 0)), (1, .long xa)]) hx hb dX0_around_29 hl (by decide) rfl (fun ls hl => ?_)
  refine lv_lload_n hx hb dX0_around_31 rfl (lv_at hl 3 rfl) ?_
  refine lv_lload hx hb dX0_around_32 (lv_at hl 2 rfl) ?_
  refine lv_lor hx hb dX0_around_34 ?_
  refine lv_topl (fun v34 e34 => ?_)
  refine lv_lload hx hb dX0_around_35 (lv_at hl 1 rfl) ?_
  refine lv_lor hx hb dX0_around_37 ?_
  refine lv_topl (fun v37 e37 => ?_)
  refine lv_lload hx hb dX0_around_38 (lv_at hl 0 rfl) ?_
  refine lv_lor hx hb dX0_around_40 ?_
  refine lv_topl (fun v40 e40 => ?_)
  refine lv_aload_n hx hb dX0_around_41 rfl (lv_at hl 4 rfl) ?_
  refine va_get (D := D) (ci := 0) (v := .long go_ALL) (C := RX0) (T := TX0) (N := 13) hx hb hts in_X0 hown hK hP 0 rfl rfl 0 (by decide) (hts _ q37) (fun _ h9 => h9) rfl dX0_around_42 ?_
  refine lv_land hx hb dX0_around_45 ?_
  refine lv_topl (fun v45 e45 => ?_)
  refine go_prl X hS dX0_around_46 ?_
  subst_vars
  rfl
set_option maxHeartbeats 4000000 in
set_option maxRecDepth 100000 in
theorem gX0_stones  (pa : Int32)  : Met l yX0_stones (ws_ yX0_stones cX0_stones 2 (some .long)) ({ frames := 0, cells := 0, slots := 0, locals := 0 } : Room) (go_pP D (go_G b cs bl wh cn ob ow ot bt wt tb tw) (go_Gt cs) [.ref (b 0), .int pa]) (go_pQl (fun r => (pa = 0 ∧ r = bl) ∨ (¬ pa = 0 ∧ r = wh))) 0 0 (fun _ => False) := by
  refine go_pMet (by decide) (Nat.le_of_ble_eq_true rfl) ?_
  intro p e s m below meth c ls X hK hP hS hl
  have hl : lv_has ls 2 [(0, .ref (b 0)), (1, .int pa)] := hl
  obtain ⟨hx, hb, hml, hr, hlocks, hown, hts⟩ := id X
  have hP : va_P D go_cl (go_G b cs bl wh cn ob ow ot bt wt tb tw) s.heap := hP
  refine lv_iload_n hx hb dX0_stones_0 rfl (lv_at hl 1 rfl) ?_
  refine lv_if_ne (tgt := 11) hx hb dX0_stones_1 (by decide) (fun c1 => ?_) (fun c1 => ?_)
  · refine lv_aload_n hx hb dX0_stones_11 rfl (lv_at hl 0 rfl) ?_
    refine va_get (D := D) (ci := 0) (v := .long wh) (C := RX0) (T := TX0) (N := 13) hx hb hts in_X0 hown hK hP 0 rfl rfl 4 (by decide) (hts _ q41) (fun _ h9 => h9) rfl dX0_stones_12 ?_
    refine go_prl X hS dX0_stones_15 ?_
    exact Or.inr ⟨c1, rfl⟩
  · refine lv_aload_n hx hb dX0_stones_4 rfl (lv_at hl 0 rfl) ?_
    refine va_get (D := D) (ci := 0) (v := .long bl) (C := RX0) (T := TX0) (N := 13) hx hb hts in_X0 hown hK hP 0 rfl rfl 3 (by decide) (hts _ q40) (fun _ h9 => h9) rfl dX0_stones_5 ?_
    refine lv_goto (tgt := 15) hx hb dX0_stones_8 (by decide) ?_
    refine go_prl X hS dX0_stones_15 ?_
    exact Or.inl ⟨c1, rfl⟩
set_option maxHeartbeats 4000000 in
set_option maxRecDepth 100000 in
theorem gX0_empty    : Met l yX0_empty (ws_ yX0_empty cX0_empty 1 (some .long)) ({ frames := 0, cells := 0, slots := 0, locals := 0 } : Room) (go_pP D (go_G b cs bl wh cn ob ow ot bt wt tb tw) (go_Gt cs) [.ref (b 0)]) (go_pQl (fun r => r = go_ALL &&& ((bl ||| wh) ^^^ (-1)))) 0 0 (fun _ => False) := by
  refine go_pMet (by decide) (Nat.le_of_ble_eq_true rfl) ?_
  intro p e s m below meth c ls X hK hP hS hl
  have hl : lv_has ls 1 [(0, .ref (b 0))] := hl
  obtain ⟨hx, hb, hml, hr, hlocks, hown, hts⟩ := id X
  have hP : va_P D go_cl (go_G b cs bl wh cn ob ow ot bt wt tb tw) s.heap := hP
  refine lv_aload_n hx hb dX0_empty_0 rfl (lv_at hl 0 rfl) ?_
  refine va_get (D := D) (ci := 0) (v := .long go_ALL) (C := RX0) (T := TX0) (N := 13) hx hb hts in_X0 hown hK hP 0 rfl rfl 0 (by decide) (hts _ q37) (fun _ h9 => h9) rfl dX0_empty_1 ?_
  refine lv_aload_n hx hb dX0_empty_4 rfl (lv_at hl 0 rfl) ?_
  refine va_get (D := D) (ci := 0) (v := .long bl) (C := RX0) (T := TX0) (N := 13) hx hb hts in_X0 hown hK hP 0 rfl rfl 3 (by decide) (hts _ q40) (fun _ h9 => h9) rfl dX0_empty_5 ?_
  refine lv_aload_n hx hb dX0_empty_8 rfl (lv_at hl 0 rfl) ?_
  refine va_get (D := D) (ci := 0) (v := .long wh) (C := RX0) (T := TX0) (N := 13) hx hb hts in_X0 hown hK hP 0 rfl rfl 4 (by decide) (hts _ q41) (fun _ h9 => h9) rfl dX0_empty_9 ?_
  refine lv_lor hx hb dX0_empty_12 ?_
  refine lv_topl (fun v12 e12 => ?_)
  refine lv_ldc2 hx hb hown (hts _ q36) dX0_empty_13 ?_
  refine lv_lxor hx hb dX0_empty_16 ?_
  refine lv_topl (fun v16 e16 => ?_)
  refine lv_land hx hb dX0_empty_17 ?_
  refine lv_topl (fun v17 e17 => ?_)
  refine go_prl X hS dX0_empty_18 ?_
  subst_vars
  rfl
set_option maxHeartbeats 4000000 in
set_option maxRecDepth 100000 in
theorem gX0_lowest  (xa : Int64)  : Met l yX0_lowest (ws_ yX0_lowest cX0_lowest 3 (some .long)) ({ frames := 0, cells := 0, slots := 0, locals := 0 } : Room) (go_pP D (go_G b cs bl wh cn ob ow ot bt wt tb tw) (go_Gt cs) [.ref (b 0), .long xa]) (go_pQl (fun r => r = xa &&& -xa)) 0 0 (fun _ => False) := by
  refine go_pMet (by decide) (Nat.le_of_ble_eq_true rfl) ?_
  intro p e s m below meth c ls X hK hP hS hl
  have hl : lv_has ls 3 [(0, .ref (b 0)), (1, .long xa)] := hl
  obtain ⟨hx, hb, hml, hr, hlocks, hown, hts⟩ := id X
  have hP : va_P D go_cl (go_G b cs bl wh cn ob ow ot bt wt tb tw) s.heap := hP
  refine lv_lload_n hx hb dX0_lowest_0 rfl (lv_at hl 1 rfl) ?_
  refine lv_lload_n hx hb dX0_lowest_1 rfl (lv_at hl 1 rfl) ?_
  refine lv_lneg hx hb dX0_lowest_2 ?_
  refine lv_topl (fun v2 e2 => ?_)
  refine lv_land hx hb dX0_lowest_3 ?_
  refine lv_topl (fun v3 e3 => ?_)
  refine go_prl X hS dX0_lowest_4 ?_
  subst_vars
  rfl
set_option maxHeartbeats 4000000 in
set_option maxRecDepth 100000 in
theorem gX0_done    : Met l yX0_done (ws_ yX0_done cX0_done 1 (some .int)) ({ frames := 0, cells := 0, slots := 0, locals := 0 } : Room) (go_pP D (go_G b cs bl wh cn ob ow ot bt wt tb tw) (go_Gt cs) [.ref (b 0)]) (go_pQi (fun r => r = cn)) 0 0 (fun _ => False) := by
  refine go_pMet (by decide) (Nat.le_of_ble_eq_true rfl) ?_
  intro p e s m below meth c ls X hK hP hS hl
  have hl : lv_has ls 1 [(0, .ref (b 0))] := hl
  obtain ⟨hx, hb, hml, hr, hlocks, hown, hts⟩ := id X
  have hP : va_P D go_cl (go_G b cs bl wh cn ob ow ot bt wt tb tw) s.heap := hP
  refine lv_aload_n hx hb dX0_done_0 rfl (lv_at hl 0 rfl) ?_
  refine va_get (D := D) (ci := 0) (v := .int cn) (C := RX0) (T := TX0) (N := 13) hx hb hts in_X0 hown hK hP 0 rfl rfl 5 (by decide) (hts _ q42) (fun _ h9 => h9) rfl dX0_done_1 ?_
  refine go_pri X hS dX0_done_4 ?_
  rfl
set_option maxHeartbeats 4000000 in
set_option maxRecDepth 100000 in
theorem gX0_badPoint  (qa : Int32)  : Met l yX0_badPoint (ws_ yX0_badPoint cX0_badPoint 2 (some .boolean)) ({ frames := 0, cells := 0, slots := 0, locals := 0 } : Room) (go_pP D (go_G b cs bl wh cn ob ow ot bt wt tb tw) (go_Gt cs) [.ref (b 0), .int qa]) (go_pQi (fun r => (r = nI 1 ∧ ¬ go_okq qa) ∨ (r = nI 0 ∧ go_okq qa))) 0 0 (fun _ => False) := by
  refine go_pMet (by decide) (Nat.le_of_ble_eq_true rfl) ?_
  intro p e s m below meth c ls X hK hP hS hl
  have hl : lv_has ls 2 [(0, .ref (b 0)), (1, .int qa)] := hl
  obtain ⟨hx, hb, hml, hr, hlocks, hown, hts⟩ := id X
  have hP : va_P D go_cl (go_G b cs bl wh cn ob ow ot bt wt tb tw) s.heap := hP
  refine lv_iload_n hx hb dX0_badPoint_0 rfl (lv_at hl 1 rfl) ?_
  refine lv_if_lt (tgt := 10) hx hb dX0_badPoint_1 (by decide) (fun c1 => ?_) (fun c1 => ?_)
  · refine lv_iconst (v := nI 1) hx hb dX0_badPoint_10 (by decide) ?_
    refine lv_goto (tgt := 15) hx hb dX0_badPoint_11 (by decide) ?_
    refine go_prz X hS dX0_badPoint_15 rfl ?_
    exact Or.inl ⟨rfl, go_okq_n c1⟩
  · refine lv_iload_n hx hb dX0_badPoint_4 rfl (lv_at hl 1 rfl) ?_
    refine lv_bipush (v := nI 49) hx hb dX0_badPoint_5 (by decide) ?_
    refine lv_icmp_lt (tgt := 14) hx hb dX0_badPoint_7 (by decide) (fun c7 => ?_) (fun c7 => ?_)
    · refine lv_iconst (v := nI 0) hx hb dX0_badPoint_14 (by decide) ?_
      refine go_prz X hS dX0_badPoint_15 rfl ?_
      exact Or.inr ⟨rfl, go_okq_y c1 c7⟩
    · refine lv_iconst (v := nI 1) hx hb dX0_badPoint_10 (by decide) ?_
      refine lv_goto (tgt := 15) hx hb dX0_badPoint_11 (by decide) ?_
      refine go_prz X hS dX0_badPoint_15 rfl ?_
      exact Or.inl ⟨rfl, go_okq_n2 c7⟩
set_option maxHeartbeats 4000000 in
set_option maxRecDepth 100000 in
theorem gX0_badPlayer  (pa : Int32)  : Met l yX0_badPlayer (ws_ yX0_badPlayer cX0_badPlayer 2 (some .boolean)) ({ frames := 0, cells := 0, slots := 0, locals := 0 } : Room) (go_pP D (go_G b cs bl wh cn ob ow ot bt wt tb tw) (go_Gt cs) [.ref (b 0), .int pa]) (go_pQi (fun r => (r = nI 1 ∧ ¬ go_okp pa) ∨ (r = nI 0 ∧ go_okp pa))) 0 0 (fun _ => False) := by
  refine go_pMet (by decide) (Nat.le_of_ble_eq_true rfl) ?_
  intro p e s m below meth c ls X hK hP hS hl
  have hl : lv_has ls 2 [(0, .ref (b 0)), (1, .int pa)] := hl
  obtain ⟨hx, hb, hml, hr, hlocks, hown, hts⟩ := id X
  have hP : va_P D go_cl (go_G b cs bl wh cn ob ow ot bt wt tb tw) s.heap := hP
  refine lv_iload_n hx hb dX0_badPlayer_0 rfl (lv_at hl 1 rfl) ?_
  refine lv_if_lt (tgt := 9) hx hb dX0_badPlayer_1 (by decide) (fun c1 => ?_) (fun c1 => ?_)
  · refine lv_iconst (v := nI 1) hx hb dX0_badPlayer_9 (by decide) ?_
    refine lv_goto (tgt := 14) hx hb dX0_badPlayer_10 (by decide) ?_
    refine go_prz X hS dX0_badPlayer_14 rfl ?_
    exact Or.inl ⟨rfl, go_okp_n c1⟩
  · refine lv_iload_n hx hb dX0_badPlayer_4 rfl (lv_at hl 1 rfl) ?_
    refine lv_iconst (v := nI 1) hx hb dX0_badPlayer_5 (by decide) ?_
    refine lv_icmp_le (tgt := 13) hx hb dX0_badPlayer_6 (by decide) (fun c6 => ?_) (fun c6 => ?_)
    · refine lv_iconst (v := nI 0) hx hb dX0_badPlayer_13 (by decide) ?_
      refine go_prz X hS dX0_badPlayer_14 rfl ?_
      exact Or.inr ⟨rfl, go_okp_y c1 c6⟩
    · refine lv_iconst (v := nI 1) hx hb dX0_badPlayer_9 (by decide) ?_
      refine lv_goto (tgt := 14) hx hb dX0_badPlayer_10 (by decide) ?_
      refine go_prz X hS dX0_badPlayer_14 rfl ?_
      exact Or.inl ⟨rfl, go_okp_n2 c6⟩
set_option maxHeartbeats 4000000 in
set_option maxRecDepth 100000 in
theorem gX0_sizeOf  (xa : Int64)  : Met l yX0_sizeOf (ws_ yX0_sizeOf cX0_sizeOf 5 (some .int)) ({ frames := 0, cells := 0, slots := 0, locals := 0 } : Room) (go_pP D (go_G b cs bl wh cn ob ow ot bt wt tb tw) (go_Gt cs) [.ref (b 0), .long xa]) (go_pQi (fun r => r = nI (go_cnt (go_m xa) 49))) 0 0 (fun _ => False) := by
  refine go_pMet (by decide) (Nat.le_of_ble_eq_true rfl) ?_
  intro p e s m below meth c ls X hK hP hS hl
  have hl : lv_has ls 5 [(0, .ref (b 0)), (1, .long xa)] := hl
  obtain ⟨hx, hb, hml, hr, hlocks, hown, hts⟩ := id X
  have hP : va_P D go_cl (go_G b cs bl wh cn ob ow ot bt wt tb tw) s.heap := hP
  have lp5 : ∀ (n : Nat) (k ct : Nat) , 50 ≤ k + n → k ≤ 49 → ct = go_cnt (go_m xa) k → ∀ (H : Heap) (locs : List Loc) (ls : Array Slot), va_P D go_cl (go_G b cs bl wh cn ob ow ot bt wt tb tw) H → va_S (fun _ => False) s.heap H locs → lv_has ls 5 [(1, .long xa), (3, .int (nI ct)), (4, .int (nI k))] → W p l e ({ frames := 0, cells := 0, slots := 0, locals := 0 } : Room) s m ([.ref (b 0), .long xa] : List Value).toArray below meth c H locs 0 0 (MQ below (go_pQi (fun r => r = nI (go_cnt (go_m xa) 49))) ([.ref (b 0), .long xa] : List Value).toArray s 0 0 (fun _ => False)) (F0 m 5 ls []) := by
    intro n
    induction n with
    | zero =>
      intro k ct  hn hk hc
      exact absurd hn (by omega)
    | succ n ih =>
      intro k ct  hn hk hc H locs ls hP hS hl
      refine lv_iload hx hb dX0_sizeOf_5 (lv_at hl 2 rfl) ?_
      refine lv_bipush (v := nI 49) hx hb dX0_sizeOf_7 (by decide) ?_
      refine lv_icmp_ge (tgt := 32) hx hb dX0_sizeOf_9 (by decide) (fun c9 => ?_) (fun c9 => ?_)
      · have c9 : 49 ≤ k := (nI_leI (a := 49) (b := k) (by omega) (by omega)).mp c9
        refine lv_iload_n hx hb dX0_sizeOf_32 rfl (lv_at hl 1 rfl) ?_
        refine go_pri X hS dX0_sizeOf_33 ?_
        rw [hc, show k = 49 by omega]
      · have c9 : ¬ 49 ≤ k := fun h => c9 ((nI_leI (a := 49) (b := k) (by omega) (by omega)).mpr h)
        have hk9 : k < 49 := by omega
        have hc9 := go_cnt_le (go_m xa) k
        refine lv_lload_n hx hb dX0_sizeOf_12 rfl (lv_at hl 0 rfl) ?_
        refine lv_iload hx hb dX0_sizeOf_13 (lv_at hl 2 rfl) ?_
        refine lv_lushr hx hb dX0_sizeOf_15 rfl ?_
        refine lv_topl (fun v15 e15 => ?_)
        refine lv_lconst (v := 1) hx hb dX0_sizeOf_16 (by decide) ?_
        refine lv_land hx hb dX0_sizeOf_17 ?_
        refine lv_topl (fun v17 e17 => ?_)
        refine lv_lconst (v := 1) hx hb dX0_sizeOf_18 (by decide) ?_
        refine W.lcmp hx hb dX0_sizeOf_19 ?_
        refine lv_if_ne (tgt := 26) hx hb dX0_sizeOf_20 (by decide) (fun c20 => ?_) (fun c20 => ?_)
        · have c20 : ¬ v17 = 1 := fun h => c20 (go_cmp0.mpr h)
          have hm : ¬ go_m xa k := fun h => c20 (by rw [e17, e15]; exact (go_m_t xa (by omega)).mpr h)
          refine lv_iinc (v := nI (k + 1)) (lv' := [(4, .int (nI (k + 1))), (1, .long xa), (3, .int (nI ct))]) hx hb dX0_sizeOf_26 hl (k := 2) rfl (nI_add k 1) (by decide) rfl (fun ls hl => ?_)
          refine lv_goto (tgt := 5) hx hb dX0_sizeOf_29 (by decide) ?_
          exact ih (k + 1) ct (by omega) (by omega) (by rw [go_cnt_n hm]; exact hc) _ _ _ hP hS (lv_sub hl [1, 2, 0] rfl)
        · have c20 : v17 = 1 := go_cmp0.mp c20
          have hm : go_m xa k := (go_m_t xa (by omega)).mp (by rw [← e15, ← e17]; exact c20)
          refine lv_iinc (v := nI (ct + 1)) (lv' := [(3, .int (nI (ct + 1))), (1, .long xa), (4, .int (nI k))]) hx hb dX0_sizeOf_23 hl (k := 1) rfl (nI_add ct 1) (by decide) rfl (fun ls hl => ?_)
          refine lv_iinc (v := nI (k + 1)) (lv' := [(4, .int (nI (k + 1))), (3, .int (nI (ct + 1))), (1, .long xa)]) hx hb dX0_sizeOf_26 hl (k := 2) rfl (nI_add k 1) (by decide) rfl (fun ls hl => ?_)
          refine lv_goto (tgt := 5) hx hb dX0_sizeOf_29 (by decide) ?_
          exact ih (k + 1) (ct + 1) (by omega) (by omega) (by rw [go_cnt_y hm, ← hc]) _ _ _ hP hS (lv_sub hl [2, 1, 0] rfl)
  refine lv_iconst (v := nI 0) hx hb dX0_sizeOf_0 (by decide) ?_
  refine lv_istore_n (lv' := [(3, .int (nI 0)), (0, .ref (b 0)), (1, .long xa)]) hx hb dX0_sizeOf_1 rfl hl (by decide) rfl (fun ls hl => ?_)
  refine lv_iconst (v := nI 0) hx hb dX0_sizeOf_2 (by decide) ?_
  refine lv_istore (lv' := [(4, .int (nI 0)), (3, .int (nI 0)), (0, .ref (b 0)), (1, .long xa)]) hx hb dX0_sizeOf_3 hl (by decide) rfl (fun ls hl => ?_)
  exact lp5 50 0 0 (by omega) (by omega) rfl _ _ _ hP hS (lv_sub hl [3, 1, 0] rfl)
set_option maxHeartbeats 4000000 in
set_option maxRecDepth 100000 in
theorem gX0_grown  (xa : Int64) (wa : Int64) (hw : go_in wa) : Met l yX0_grown (ws_ yX0_grown cX0_grown 11 (some .long)) ({ frames := 1, cells := 0, slots := 0, locals := 30 } : Room) (go_pP D (go_G b cs bl wh cn ob ow ot bt wt tb tw) (go_Gt cs) [.ref (b 0), .long xa, .long wa]) (go_pQl (fun r => ∀ j, go_m r j ↔ go_rc (go_m wa) (go_m xa) j)) 0 0 (fun _ => False) := by
  refine go_pMet (by decide) (Nat.le_of_ble_eq_true rfl) ?_
  intro p e s m below meth c ls X hK hP hS hl
  have hl : lv_has ls 11 [(0, .ref (b 0)), (1, .long xa), (3, .long wa)] := hl
  obtain ⟨hx, hb, hml, hr, hlocks, hown, hts⟩ := id X
  have hP : va_P D go_cl (go_G b cs bl wh cn ob ow ot bt wt tb tw) s.heap := hP
  have lp11 : ∀ (n : Nat) (k : Nat) (now : Int64) (mo : Int32) , 51 ≤ k + n → k ≤ 50 → go_gI xa wa k now mo → ∀ (H : Heap) (locs : List Loc) (ls : Array Slot), va_P D go_cl (go_G b cs bl wh cn ob ow ot bt wt tb tw) H → va_S (fun _ => False) s.heap H locs → lv_has ls 11 [(0, .ref (b 0)), (1, .long xa), (3, .long wa), (5, .long now), (7, .int mo), (8, .int (nI k))] → W p l e ({ frames := 1, cells := 0, slots := 0, locals := 30 } : Room) s m ([.ref (b 0), .long xa, .long wa] : List Value).toArray below meth c H locs 0 0 (MQ below (go_pQl (fun r => ∀ j, go_m r j ↔ go_rc (go_m wa) (go_m xa) j)) ([.ref (b 0), .long xa, .long wa] : List Value).toArray s 0 0 (fun _ => False)) (F0 m 11 ls []) := by
    intro n
    induction n with
    | zero =>
      intro k now mo  hn hk hI
      exact absurd hn (by omega)
    | succ n ih =>
      intro k now mo  hn hk hI H locs ls hP hS hl
      refine lv_iload hx hb dX0_grown_11 (lv_at hl 5 rfl) ?_
      refine lv_bipush (v := nI 50) hx hb dX0_grown_13 (by decide) ?_
      refine lv_icmp_ge (tgt := 61) hx hb dX0_grown_15 (by decide) (fun c15 => ?_) (fun c15 => ?_)
      · have c15 : 50 ≤ k := (nI_leI (a := 50) (b := k) (by omega) (by omega)).mp c15
        refine lv_lload hx hb dX0_grown_61 (lv_at hl 3 rfl) ?_
        refine go_prl X hS dX0_grown_63 ?_
        exact go_gI_e hI (Or.inl c15)
      · have c15 : ¬ 50 ≤ k := fun h => c15 ((nI_leI (a := 50) (b := k) (by omega) (by omega)).mpr h)
        refine lv_iload hx hb dX0_grown_18 (lv_at hl 4 rfl) ?_
        refine lv_if_eq (tgt := 61) hx hb dX0_grown_20 (by decide) (fun c20 => ?_) (fun c20 => ?_)
        · refine lv_lload hx hb dX0_grown_61 (lv_at hl 3 rfl) ?_
          refine go_prl X hS dX0_grown_63 ?_
          exact go_gI_e hI (Or.inr c20)
        · refine lv_lload hx hb dX0_grown_23 (lv_at hl 3 rfl) ?_
          refine lv_aload_n hx hb dX0_grown_25 rfl (lv_at hl 0 rfl) ?_
          refine lv_lload hx hb dX0_grown_26 (lv_at hl 3 rfl) ?_
          refine go_pcL (As := [.long now]) (rest := [.long now]) X (gX0_around now) (cwV 1 hts (lw_V q103 q105 qs5 q26 q106) rfl rfl rfl (by decide +kernel) ⟨Nat.le_of_ble_eq_true rfl, Nat.le_of_ble_eq_true rfl⟩) hK hP (va_recv hK hP (ci := 0) (q0 := 0) rfl rfl) rfl rfl hl.1 (Nat.le_of_ble_eq_true rfl) dX0_grown_28 ⟨Nat.zero_le _, Nat.zero_le _⟩ hS (fun r28 H1 locs p28 hk hS => ?_)
          have hP := hk _ hP
          clear hk
          generalize H1 = H at hP hS ⊢
          refine lv_lload_n hx hb dX0_grown_31 rfl (lv_at hl 2 rfl) ?_
          refine lv_land hx hb dX0_grown_32 ?_
          refine lv_topl (fun v32 e32 => ?_)
          refine lv_lor hx hb dX0_grown_33 ?_
          refine lv_topl (fun v33 e33 => ?_)
          refine lv_lstore (lv' := [(9, .long v33), (0, .ref (b 0)), (1, .long xa), (3, .long wa), (5, .long now), (7, .int mo), (8, .int (nI k))]) hx hb dX0_grown_34 hl (by decide) rfl (fun ls hl => ?_)
          have hst := go_gI_s hw hI c20 (show v33 = _ by rw [e33, e32, p28])
          refine lv_lload hx hb dX0_grown_36 (lv_at hl 0 rfl) ?_
          refine lv_lload hx hb dX0_grown_38 (lv_at hl 4 rfl) ?_
          refine W.lcmp hx hb dX0_grown_40 ?_
          refine lv_if_eq (tgt := 48) hx hb dX0_grown_41 (by decide) (fun c41 => ?_) (fun c41 => ?_)
          · have c41 : v33 = now := go_cmp0.mp c41
            refine lv_iconst (v := nI 0) hx hb dX0_grown_48 (by decide) ?_
            refine lv_istore (lv' := [(7, .int (nI 0)), (9, .long v33), (0, .ref (b 0)), (1, .long xa), (3, .long wa), (5, .long now), (8, .int (nI k))]) hx hb dX0_grown_49 hl (by decide) rfl (fun ls hl => ?_)
            refine lv_lload hx hb dX0_grown_51 (lv_at hl 1 rfl) ?_
            refine lv_lstore (lv' := [(5, .long v33), (7, .int (nI 0)), (9, .long v33), (0, .ref (b 0)), (1, .long xa), (3, .long wa), (8, .int (nI k))]) hx hb dX0_grown_53 hl (by decide) rfl (fun ls hl => ?_)
            refine lv_iinc (v := nI (k + 1)) (lv' := [(8, .int (nI (k + 1))), (5, .long v33), (7, .int (nI 0)), (9, .long v33), (0, .ref (b 0)), (1, .long xa), (3, .long wa)]) hx hb dX0_grown_55 hl (k := 6) rfl (nI_add k 1) (by decide) rfl (fun ls hl => ?_)
            refine lv_goto (tgt := 11) hx hb dX0_grown_58 (by decide) ?_
            exact ih (k + 1) v33 (nI 0) (by omega) (by omega) (hst.2 c41) _ _ _ hP hS (lv_sub hl [4, 5, 6, 1, 2, 0] rfl)
          · have c41 : ¬ v33 = now := fun h => c41 (go_cmp0.mpr h)
            refine lv_iconst (v := nI 1) hx hb dX0_grown_44 (by decide) ?_
            refine lv_goto (tgt := 49) hx hb dX0_grown_45 (by decide) ?_
            refine lv_istore (lv' := [(7, .int (nI 1)), (9, .long v33), (0, .ref (b 0)), (1, .long xa), (3, .long wa), (5, .long now), (8, .int (nI k))]) hx hb dX0_grown_49 hl (by decide) rfl (fun ls hl => ?_)
            refine lv_lload hx hb dX0_grown_51 (lv_at hl 1 rfl) ?_
            refine lv_lstore (lv' := [(5, .long v33), (7, .int (nI 1)), (9, .long v33), (0, .ref (b 0)), (1, .long xa), (3, .long wa), (8, .int (nI k))]) hx hb dX0_grown_53 hl (by decide) rfl (fun ls hl => ?_)
            refine lv_iinc (v := nI (k + 1)) (lv' := [(8, .int (nI (k + 1))), (5, .long v33), (7, .int (nI 1)), (9, .long v33), (0, .ref (b 0)), (1, .long xa), (3, .long wa)]) hx hb dX0_grown_55 hl (k := 6) rfl (nI_add k 1) (by decide) rfl (fun ls hl => ?_)
            refine lv_goto (tgt := 11) hx hb dX0_grown_58 (by decide) ?_
            exact ih (k + 1) v33 (nI 1) (by omega) (by omega) (hst.1 c41) _ _ _ hP hS (lv_sub hl [4, 5, 6, 1, 2, 0] rfl)
  refine lv_lload_n hx hb dX0_grown_0 rfl (lv_at hl 1 rfl) ?_
  refine lv_lload_n hx hb dX0_grown_1 rfl (lv_at hl 2 rfl) ?_
  refine lv_land hx hb dX0_grown_2 ?_
  refine lv_topl (fun v2 e2 => ?_)
  refine lv_lstore (lv' := [(5, .long v2), (0, .ref (b 0)), (1, .long xa), (3, .long wa)]) hx hb dX0_grown_3 hl (by decide) rfl (fun ls hl => ?_)
  refine lv_iconst (v := nI 1) hx hb dX0_grown_5 (by decide) ?_
  refine lv_istore (lv' := [(7, .int (nI 1)), (5, .long v2), (0, .ref (b 0)), (1, .long xa), (3, .long wa)]) hx hb dX0_grown_6 hl (by decide) rfl (fun ls hl => ?_)
  refine lv_iconst (v := nI 0) hx hb dX0_grown_8 (by decide) ?_
  refine lv_istore (lv' := [(8, .int (nI 0)), (7, .int (nI 1)), (5, .long v2), (0, .ref (b 0)), (1, .long xa), (3, .long wa)]) hx hb dX0_grown_9 hl (by decide) rfl (fun ls hl => ?_)
  exact lp11 51 0 v2 (nI 1) (by omega) (by omega) (by rw [e2]; exact go_gI_0 xa wa) _ _ _ hP hS (lv_sub hl [3, 4, 5, 2, 1, 0] rfl)
set_option maxHeartbeats 4000000 in
set_option maxRecDepth 100000 in
theorem gX0_dead  (xa : Int64) (oa : Int64) (hw : go_in xa) (ho : go_in oa) : Met l yX0_dead (ws_ yX0_dead cX0_dead 9 (some .long)) ({ frames := 2, cells := 0, slots := 0, locals := 60 } : Room) (go_pP D (go_G b cs bl wh cn ob ow ot bt wt tb tw) (go_Gt cs) [.ref (b 0), .long xa, .long oa]) (go_pQl (fun r => ∀ j, go_m r j ↔ go_m xa j ∧ ¬ ∃ i a, go_m oa i ∧ go_ad i a ∧ go_rc (go_m xa) (fun z => z = j) a)) 0 0 (fun _ => False) := by
  refine go_pMet (by decide) (Nat.le_of_ble_eq_true rfl) ?_
  intro p e s m below meth c ls X hK hP hS hl
  have hl : lv_has ls 9 [(0, .ref (b 0)), (1, .long xa), (3, .long oa)] := hl
  obtain ⟨hx, hb, hml, hr, hlocks, hown, hts⟩ := id X
  have hP : va_P D go_cl (go_G b cs bl wh cn ob ow ot bt wt tb tw) s.heap := hP
  refine lv_lload_n hx hb dX0_dead_0 rfl (lv_at hl 1 rfl) ?_
  refine lv_aload_n hx hb dX0_dead_1 rfl (lv_at hl 0 rfl) ?_
  refine lv_lload_n hx hb dX0_dead_2 rfl (lv_at hl 2 rfl) ?_
  refine go_pcL (As := [.long oa]) (rest := [.long xa]) X (gX0_around oa) (cwV 1 hts (lw_V q103 q105 qs5 q26 q106) rfl rfl rfl (by decide +kernel) ⟨Nat.le_of_ble_eq_true rfl, Nat.le_of_ble_eq_true rfl⟩) hK hP (va_recv hK hP (ci := 0) (q0 := 0) rfl rfl) rfl rfl hl.1 (Nat.le_of_ble_eq_true rfl) dX0_dead_3 ⟨Nat.zero_le _, Nat.zero_le _⟩ hS (fun r3 H1 locs p3 hk hS => ?_)
  have hP := hk _ hP
  clear hk
  generalize H1 = H at hP hS ⊢
  refine lv_land hx hb dX0_dead_6 ?_
  refine lv_topl (fun v6 e6 => ?_)
  refine lv_lstore (lv' := [(5, .long v6), (0, .ref (b 0)), (1, .long xa), (3, .long oa)]) hx hb dX0_dead_7 hl (by decide) rfl (fun ls hl => ?_)
  refine lv_aload_n hx hb dX0_dead_9 rfl (lv_at hl 1 rfl) ?_
  refine lv_lload hx hb dX0_dead_10 (lv_at hl 0 rfl) ?_
  refine lv_lload_n hx hb dX0_dead_12 rfl (lv_at hl 2 rfl) ?_
  refine go_pcL (As := [.long v6, .long xa]) (rest := []) X (gX0_grown v6 xa hw) (cwV 2 hts (lw_V q107 q109 qs6 q26 q110) rfl rfl rfl (by decide +kernel) ⟨Nat.le_of_ble_eq_true rfl, Nat.le_of_ble_eq_true rfl⟩) hK hP (va_recv hK hP (ci := 0) (q0 := 0) rfl rfl) rfl rfl hl.1 (Nat.le_of_ble_eq_true rfl) dX0_dead_13 ⟨Nat.zero_le _, Nat.zero_le _⟩ hS (fun r13 H1 locs p13 hk hS => ?_)
  have hP := hk _ hP
  clear hk
  generalize H1 = H at hP hS ⊢
  refine lv_lstore (lv' := [(7, .long r13), (5, .long v6), (0, .ref (b 0)), (1, .long xa), (3, .long oa)]) hx hb dX0_dead_16 hl (by decide) rfl (fun ls hl => ?_)
  refine lv_lload_n hx hb dX0_dead_18 rfl (lv_at hl 3 rfl) ?_
  refine lv_lload hx hb dX0_dead_19 (lv_at hl 0 rfl) ?_
  refine lv_ldc2 hx hb hown (hts _ q36) dX0_dead_21 ?_
  refine lv_lxor hx hb dX0_dead_24 ?_
  refine lv_topl (fun v24 e24 => ?_)
  refine lv_land hx hb dX0_dead_25 ?_
  refine lv_topl (fun v25 e25 => ?_)
  refine go_prl X hS dX0_dead_26 ?_
  rw [e25, e24]
  exact go_dead ho (by rw [e6, p3]) p13
set_option maxHeartbeats 4000000 in
set_option maxRecDepth 100000 in
theorem gX0_groupAt  (qa : Int32) (K : Nat) (hK9 : K < 49) (eq : qa = nI K) (hbl : go_in bl) (hwh : go_in wh) : Met l yX0_groupAt (ws_ yX0_groupAt cX0_groupAt 4 (some .long)) ({ frames := 2, cells := 0, slots := 0, locals := 60 } : Room) (go_pP D (go_G b cs bl wh cn ob ow ot bt wt tb tw) (go_Gt cs) [.ref (b 0), .int qa]) (go_pQl (fun r => (go_m bl K ∧ ∀ j, go_m r j ↔ go_rc (go_m bl) (fun z => z = K) j) ∨ (¬ go_m bl K ∧ ∀ j, go_m r j ↔ go_rc (go_m wh) (fun z => z = K) j))) 0 0 (fun _ => False) := by
  refine go_pMet (by decide) (Nat.le_of_ble_eq_true rfl) ?_
  intro p e s m below meth c ls X hK hP hS hl
  have hl : lv_has ls 4 [(0, .ref (b 0)), (1, .int qa)] := hl
  obtain ⟨hx, hb, hml, hr, hlocks, hown, hts⟩ := id X
  have hP : va_P D go_cl (go_G b cs bl wh cn ob ow ot bt wt tb tw) s.heap := hP
  refine lv_lconst (v := 1) hx hb dX0_groupAt_0 (by decide) ?_
  refine lv_iload_n hx hb dX0_groupAt_1 rfl (lv_at hl 1 rfl) ?_
  refine lv_lshl hx hb dX0_groupAt_2 rfl ?_
  refine lv_topl (fun v2 e2 => ?_)
  subst eq
  have hb9 : ∀ j, go_m v2 j ↔ j = K := fun j => by rw [e2]; exact go_m_b (by omega) j
  refine lv_lstore_n (lv' := [(2, .long v2), (0, .ref (b 0)), (1, .int (nI K))]) hx hb dX0_groupAt_3 rfl hl (by decide) rfl (fun ls hl => ?_)
  refine lv_aload_n hx hb dX0_groupAt_4 rfl (lv_at hl 1 rfl) ?_
  refine va_get (D := D) (ci := 0) (v := .long bl) (C := RX0) (T := TX0) (N := 13) hx hb hts in_X0 hown hK hP 0 rfl rfl 3 (by decide) (hts _ q40) (fun _ h9 => h9) rfl dX0_groupAt_5 ?_
  refine lv_lload_n hx hb dX0_groupAt_8 rfl (lv_at hl 0 rfl) ?_
  refine lv_land hx hb dX0_groupAt_9 ?_
  refine lv_topl (fun v9 e9 => ?_)
  refine lv_lconst (v := 0) hx hb dX0_groupAt_10 (by decide) ?_
  refine W.lcmp hx hb dX0_groupAt_11 ?_
  refine lv_if_eq (tgt := 27) hx hb dX0_groupAt_12 (by decide) (fun c12 => ?_) (fun c12 => ?_)
  · have c12 : v9 = 0 := go_cmp0.mp c12
    have hm : ¬ go_m bl K := by rw [e9, e2] at c12; exact (go_m_bz bl (by omega)).mp c12
    refine lv_aload_n hx hb dX0_groupAt_27 rfl (lv_at hl 1 rfl) ?_
    refine lv_lload_n hx hb dX0_groupAt_28 rfl (lv_at hl 0 rfl) ?_
    refine lv_aload_n hx hb dX0_groupAt_29 rfl (lv_at hl 1 rfl) ?_
    refine va_get (D := D) (ci := 0) (v := .long wh) (C := RX0) (T := TX0) (N := 13) hx hb hts in_X0 hown hK hP 0 rfl rfl 4 (by decide) (hts _ q41) (fun _ h9 => h9) rfl dX0_groupAt_30 ?_
    refine go_pcL (As := [.long v2, .long wh]) (rest := []) X (gX0_grown v2 wh hwh) (cwV 2 hts (lw_V q107 q109 qs6 q26 q110) rfl rfl rfl (by decide +kernel) ⟨Nat.le_of_ble_eq_true rfl, Nat.le_of_ble_eq_true rfl⟩) hK hP (va_recv hK hP (ci := 0) (q0 := 0) rfl rfl) rfl rfl hl.1 (Nat.le_of_ble_eq_true rfl) dX0_groupAt_33 ⟨Nat.zero_le _, Nat.zero_le _⟩ hS (fun r33 H1 locs p33 hk hS => ?_)
    have hP := hk _ hP
    clear hk
    generalize H1 = H at hP hS ⊢
    refine go_prl X hS dX0_groupAt_36 ?_
    exact Or.inr ⟨hm, fun j => (p33 j).trans (go_rc_c (fun a => Iff.rfl) hb9 j)⟩
  · have c12 : ¬ v9 = 0 := fun h => c12 (go_cmp0.mpr h)
    have hm : go_m bl K := by
      by_cases c : go_m bl K
      · exact c
      · exact absurd (by rw [e9, e2]; exact (go_m_bz bl (by omega)).mpr c) c12
    refine lv_aload_n hx hb dX0_groupAt_15 rfl (lv_at hl 1 rfl) ?_
    refine lv_lload_n hx hb dX0_groupAt_16 rfl (lv_at hl 0 rfl) ?_
    refine lv_aload_n hx hb dX0_groupAt_17 rfl (lv_at hl 1 rfl) ?_
    refine va_get (D := D) (ci := 0) (v := .long bl) (C := RX0) (T := TX0) (N := 13) hx hb hts in_X0 hown hK hP 0 rfl rfl 3 (by decide) (hts _ q40) (fun _ h9 => h9) rfl dX0_groupAt_18 ?_
    refine go_pcL (As := [.long v2, .long bl]) (rest := []) X (gX0_grown v2 bl hbl) (cwV 2 hts (lw_V q107 q109 qs6 q26 q110) rfl rfl rfl (by decide +kernel) ⟨Nat.le_of_ble_eq_true rfl, Nat.le_of_ble_eq_true rfl⟩) hK hP (va_recv hK hP (ci := 0) (q0 := 0) rfl rfl) rfl rfl hl.1 (Nat.le_of_ble_eq_true rfl) dX0_groupAt_21 ⟨Nat.zero_le _, Nat.zero_le _⟩ hS (fun r21 H1 locs p21 hk hS => ?_)
    have hP := hk _ hP
    clear hk
    generalize H1 = H at hP hS ⊢
    refine lv_goto (tgt := 36) hx hb dX0_groupAt_24 (by decide) ?_
    refine go_prl X hS dX0_groupAt_36 ?_
    exact Or.inl ⟨hm, fun j => (p21 j).trans (go_rc_c (fun a => Iff.rfl) hb9 j)⟩
end GoG
end
section
/-! GoBoard: public methods that write nothing: printed by gen/g2.py -/
theorem go_aAt_y {B : Nat → Nat} {K : Nat} (h : K < 49) : go_aAt B (nI K) = nI (B K) := go_onq_y h
theorem go_aCap_y {a : go_A} {P : Nat} (h : P < 2) : go_aCap a (nI P) = nI (if P = 0 then go_c0 a else go_c1 a) := go_onp_y h
theorem go_aGs_2 {B : Nat → Nat} {K : Nat} (h : K < 49) (h2 : B K = 2) : go_aGs B (nI K) = -2 := (go_onq_y h).trans (go_ite_t h2)
theorem go_aGs_n {B : Nat → Nat} {K : Nat} (h : K < 49) (h2 : ¬ B K = 2) : go_aGs B (nI K) = nI (go_cnt (go_gp B K) 49) := (go_onq_y h).trans (go_ite_f h2)
theorem go_aLib_2 {B : Nat → Nat} {K : Nat} (h : K < 49) (h2 : B K = 2) : go_aLib B (nI K) = -2 := (go_onq_y h).trans (go_ite_t h2)
theorem go_aLib_n {B : Nat → Nat} {K : Nat} (h : K < 49) (h2 : ¬ B K = 2) : go_aLib B (nI K) = nI (go_nl B K) := (go_onq_y h).trans (go_ite_f h2)
theorem go_aReg_2 {B : Nat → Nat} {K : Nat} (h : K < 49) (h2 : B K = 2) : go_aReg B (nI K) = nI (go_cnt (go_gp B K) 49) := (go_onq_y h).trans (go_ite_t h2)
theorem go_aReg_n {B : Nat → Nat} {K : Nat} (h : K < 49) (h2 : ¬ B K = 2) : go_aReg B (nI K) = -2 := (go_onq_y h).trans (go_ite_f h2)
theorem go_aGrp_y {B : Nat → Nat} {P : Nat} (h : P < 2) : go_aGrp B (nI P) = nI (go_cnt (go_hd B P) 49) := go_onp_y h
theorem go_aAta_y {B : Nat → Nat} {P : Nat} (h : P < 2) : go_aAta B (nI P) = nI (go_cnt (go_at1 B P) 49) := go_onp_y h
theorem go_aSc_y {B : Nat → Nat} {P : Nat} (h : P < 2) : go_aSc B (nI P) = nI (go_cnt (go_sc B P) 49) := go_onp_y h
theorem go_two {B : Nat → Nat} {bl wh : Int64} {K : Nat} (h : go_bd B bl wh) (hb : go_b2 B) (hK : K < 49) (h0 : ¬ go_m bl K) (h1 : ¬ go_m wh K) : B K = 2 := by
  have a0 : ¬ B K = 0 := fun e => h0 ((h.1 K).mpr ⟨hK, e⟩)
  have a1 : ¬ B K = 1 := fun e => h1 ((h.2 K).mpr ⟨hK, e⟩)
  have := hb K hK
  omega
theorem go_left0 {B : Nat → Nat} {P k : Nat} {x : Int64} {Q : Nat → Prop} (h : go_lf B P k x) (he : 49 ≤ k ∨ x = 0) : go_cnt (fun j => Q j ∧ ¬ go_m x j) 49 = go_cnt Q 49 := go_cnt_c (fun j _ => ⟨fun h => h.1, fun hq => ⟨hq, go_lf_e h he j⟩⟩)
theorem go_st_all {B : Nat → Nat} {P : Nat} {x : Int64} {Q : Nat → Prop} (h : go_st B P x) (hQ : ∀ j, Q j → j < 49 ∧ B j = P) : go_cnt (fun j => Q j ∧ ¬ go_m x j) 49 = 0 := go_cnt_0 (fun j _ hj => hj.2 ((h j).mpr (hQ j hj.1)))
section GoG
variable {l : Launch} {D : va_G} {b : Nat → Nat} {cs : Nat → ClassId} {bl wh : Int64} {cn : Int32} {ob ow : Nat → Int64} {ot : Nat → Int32} {bt wt : Int32} {tb tw : Int64} {a : go_A}
set_option maxHeartbeats 4000000 in
set_option maxRecDepth 100000 in
theorem gX0_at  (qa : Int32) (hG : go_GI a bl wh cn ob ow ot bt wt) (hI : go_AI a) : Met l yX0_at (ws_ yX0_at cX0_at 2 (some .int)) ({ frames := 1, cells := 0, slots := 0, locals := 21 } : Room) (go_pP D (go_G b cs bl wh cn ob ow ot bt wt tb tw) (go_Gt cs) [.ref (b 0), .int qa]) (go_pQi (fun r => r = go_aAt (go_B a) qa)) 0 0 (fun _ => False) := by
  refine go_pMet (by decide) (Nat.le_of_ble_eq_true rfl) ?_
  intro p e s m below meth c ls X hK hP hS hl
  have hl : lv_has ls 2 [(0, .ref (b 0)), (1, .int qa)] := hl
  obtain ⟨hx, hb, hml, hr, hlocks, hown, hts⟩ := id X
  have hP : va_P D go_cl (go_G b cs bl wh cn ob ow ot bt wt tb tw) s.heap := hP
  refine lv_aload_n hx hb dX0_at_0 rfl (lv_at hl 0 rfl) ?_
  refine lv_iload_n hx hb dX0_at_1 rfl (lv_at hl 1 rfl) ?_
  refine go_pcI (As := [.int qa]) (rest := []) X (gX0_badPoint qa) (cwV 1 hts (lw_V q91 q93 qs2 q26 q94) rfl rfl rfl (by decide +kernel) ⟨Nat.le_of_ble_eq_true rfl, Nat.le_of_ble_eq_true rfl⟩) hK hP (va_recv hK hP (ci := 0) (q0 := 0) rfl rfl) rfl rfl hl.1 (Nat.le_of_ble_eq_true rfl) dX0_at_2 ⟨Nat.zero_le _, Nat.zero_le _⟩ hS (fun r2 H1 locs p2 hk hS => ?_)
  have hP := hk _ hP
  clear hk
  generalize H1 = H at hP hS ⊢
  refine lv_if_eq (tgt := 10) hx hb dX0_at_5 (by decide) (fun c5 => ?_) (fun c5 => ?_)
  · obtain ⟨K, hK9, rfl⟩ := (go_bz p2).1 c5
    refine lv_aload_n hx hb dX0_at_10 rfl (lv_at hl 0 rfl) ?_
    refine va_get (D := D) (ci := 0) (v := .long bl) (C := RX0) (T := TX0) (N := 13) hx hb hts in_X0 hown hK hP 0 rfl rfl 3 (by decide) (hts _ q40) (fun _ h9 => h9) rfl dX0_at_11 ?_
    refine lv_iload_n hx hb dX0_at_14 rfl (lv_at hl 1 rfl) ?_
    refine lv_lushr hx hb dX0_at_15 rfl ?_
    refine lv_topl (fun v15 e15 => ?_)
    refine lv_lconst (v := 1) hx hb dX0_at_16 (by decide) ?_
    refine lv_land hx hb dX0_at_17 ?_
    refine lv_topl (fun v17 e17 => ?_)
    refine lv_lconst (v := 1) hx hb dX0_at_18 (by decide) ?_
    refine W.lcmp hx hb dX0_at_19 ?_
    refine lv_if_ne (tgt := 25) hx hb dX0_at_20 (by decide) (fun c20 => ?_) (fun c20 => ?_)
    · have c20 : ¬ v17 = 1 := fun h => c20 (go_cmp0.mpr h)
      have hm0 : ¬ go_m bl K := fun h => c20 (by rw [e17, e15]; exact (go_m_t bl (by omega)).mpr h)
      refine lv_aload_n hx hb dX0_at_25 rfl (lv_at hl 0 rfl) ?_
      refine va_get (D := D) (ci := 0) (v := .long wh) (C := RX0) (T := TX0) (N := 13) hx hb hts in_X0 hown hK hP 0 rfl rfl 4 (by decide) (hts _ q41) (fun _ h9 => h9) rfl dX0_at_26 ?_
      refine lv_iload_n hx hb dX0_at_29 rfl (lv_at hl 1 rfl) ?_
      refine lv_lushr hx hb dX0_at_30 rfl ?_
      refine lv_topl (fun v30 e30 => ?_)
      refine lv_lconst (v := 1) hx hb dX0_at_31 (by decide) ?_
      refine lv_land hx hb dX0_at_32 ?_
      refine lv_topl (fun v32 e32 => ?_)
      refine lv_lconst (v := 1) hx hb dX0_at_33 (by decide) ?_
      refine W.lcmp hx hb dX0_at_34 ?_
      refine lv_if_ne (tgt := 42) hx hb dX0_at_35 (by decide) (fun c35 => ?_) (fun c35 => ?_)
      · have c35 : ¬ v32 = 1 := fun h => c35 (go_cmp0.mpr h)
        have hm1 : ¬ go_m wh K := fun h => c35 (by rw [e32, e30]; exact (go_m_t wh (by omega)).mpr h)
        refine lv_iconst (v := nI 2) hx hb dX0_at_42 (by decide) ?_
        refine go_pri X hS dX0_at_43 ?_
        rw [go_aAt_y hK9, go_two hG.1 hI.1 hK9 hm0 hm1]
      · have c35 : v32 = 1 := go_cmp0.mp c35
        have hm1 : go_m wh K := (go_m_t wh (by omega)).mp (by rw [← e30, ← e32]; exact c35)
        refine lv_iconst (v := nI 1) hx hb dX0_at_38 (by decide) ?_
        refine lv_goto (tgt := 43) hx hb dX0_at_39 (by decide) ?_
        refine go_pri X hS dX0_at_43 ?_
        rw [go_aAt_y hK9, ((hG.1.2 K).mp hm1).2]
    · have c20 : v17 = 1 := go_cmp0.mp c20
      have hm : go_m bl K := (go_m_t bl (by omega)).mp (by rw [← e15, ← e17]; exact c20)
      refine lv_iconst (v := nI 0) hx hb dX0_at_23 (by decide) ?_
      refine go_pri X hS dX0_at_24 ?_
      rw [go_aAt_y hK9, ((hG.1.1 K).mp hm).2]
  · have hq := (go_bz p2).2 c5
    refine lv_iconst (v := (-1)) hx hb dX0_at_8 (by decide) ?_
    refine go_pri X hS dX0_at_9 ?_
    exact (go_onq_n hq).symm
set_option maxHeartbeats 4000000 in
set_option maxRecDepth 100000 in
theorem gX0_captured  (pa : Int32) (hG : go_GI a bl wh cn ob ow ot bt wt) (hI : go_AI a) : Met l yX0_captured (ws_ yX0_captured cX0_captured 2 (some .int)) ({ frames := 1, cells := 0, slots := 0, locals := 21 } : Room) (go_pP D (go_G b cs bl wh cn ob ow ot bt wt tb tw) (go_Gt cs) [.ref (b 0), .int pa]) (go_pQi (fun r => r = go_aCap a pa)) 0 0 (fun _ => False) := by
  refine go_pMet (by decide) (Nat.le_of_ble_eq_true rfl) ?_
  intro p e s m below meth c ls X hK hP hS hl
  have hl : lv_has ls 2 [(0, .ref (b 0)), (1, .int pa)] := hl
  obtain ⟨hx, hb, hml, hr, hlocks, hown, hts⟩ := id X
  have hP : va_P D go_cl (go_G b cs bl wh cn ob ow ot bt wt tb tw) s.heap := hP
  refine lv_aload_n hx hb dX0_captured_0 rfl (lv_at hl 0 rfl) ?_
  refine lv_iload_n hx hb dX0_captured_1 rfl (lv_at hl 1 rfl) ?_
  refine go_pcI (As := [.int pa]) (rest := []) X (gX0_badPlayer pa) (cwV 1 hts (lw_V q87 q89 qs1 q26 q90) rfl rfl rfl (by decide +kernel) ⟨Nat.le_of_ble_eq_true rfl, Nat.le_of_ble_eq_true rfl⟩) hK hP (va_recv hK hP (ci := 0) (q0 := 0) rfl rfl) rfl rfl hl.1 (Nat.le_of_ble_eq_true rfl) dX0_captured_2 ⟨Nat.zero_le _, Nat.zero_le _⟩ hS (fun r2 H1 locs p2 hk hS => ?_)
  have hP := hk _ hP
  clear hk
  generalize H1 = H at hP hS ⊢
  refine lv_if_eq (tgt := 10) hx hb dX0_captured_5 (by decide) (fun c5 => ?_) (fun c5 => ?_)
  · obtain ⟨P, hP2, rfl⟩ := (go_bz p2).1 c5
    refine lv_iload_n hx hb dX0_captured_10 rfl (lv_at hl 1 rfl) ?_
    refine lv_if_ne (tgt := 21) hx hb dX0_captured_11 (by decide) (fun c11 => ?_) (fun c11 => ?_)
    · have c11 : ¬ P = 0 := fun h => c11 ((nI_eq (a := P) (b := 0) (by omega) (by omega)).mpr h)
      refine lv_aload_n hx hb dX0_captured_21 rfl (lv_at hl 0 rfl) ?_
      refine va_get (D := D) (ci := 0) (v := .int wt) (C := RX0) (T := TX0) (N := 13) hx hb hts in_X0 hown hK hP 0 rfl rfl 10 (by decide) (hts _ q47) (fun _ h9 => h9) rfl dX0_captured_22 ?_
      refine go_pri X hS dX0_captured_25 ?_
      rw [go_aCap_y hP2, if_neg c11]
      exact hG.2.2.2.2.2
    · have c11 : P = 0 := (nI_eq (a := P) (b := 0) (by omega) (by omega)).mp c11
      refine lv_aload_n hx hb dX0_captured_14 rfl (lv_at hl 0 rfl) ?_
      refine va_get (D := D) (ci := 0) (v := .int bt) (C := RX0) (T := TX0) (N := 13) hx hb hts in_X0 hown hK hP 0 rfl rfl 9 (by decide) (hts _ q46) (fun _ h9 => h9) rfl dX0_captured_15 ?_
      refine lv_goto (tgt := 25) hx hb dX0_captured_18 (by decide) ?_
      refine go_pri X hS dX0_captured_25 ?_
      rw [go_aCap_y hP2, if_pos c11]
      exact hG.2.2.2.2.1
  · have hq := (go_bz p2).2 c5
    refine lv_iconst (v := (-1)) hx hb dX0_captured_8 (by decide) ?_
    refine go_pri X hS dX0_captured_9 ?_
    exact (go_onp_n hq).symm
set_option maxHeartbeats 4000000 in
set_option maxRecDepth 100000 in
theorem gX0_groupSize  (qa : Int32) (hG : go_GI a bl wh cn ob ow ot bt wt) (hI : go_AI a) : Met l yX0_groupSize (ws_ yX0_groupSize cX0_groupSize 5 (some .int)) ({ frames := 3, cells := 0, slots := 0, locals := 83 } : Room) (go_pP D (go_G b cs bl wh cn ob ow ot bt wt tb tw) (go_Gt cs) [.ref (b 0), .int qa]) (go_pQi (fun r => r = go_aGs (go_B a) qa)) 0 0 (fun _ => False) := by
  refine go_pMet (by decide) (Nat.le_of_ble_eq_true rfl) ?_
  intro p e s m below meth c ls X hK hP hS hl
  have hl : lv_has ls 5 [(0, .ref (b 0)), (1, .int qa)] := hl
  obtain ⟨hx, hb, hml, hr, hlocks, hown, hts⟩ := id X
  have hP : va_P D go_cl (go_G b cs bl wh cn ob ow ot bt wt tb tw) s.heap := hP
  refine lv_aload_n hx hb dX0_groupSize_0 rfl (lv_at hl 0 rfl) ?_
  refine lv_iload_n hx hb dX0_groupSize_1 rfl (lv_at hl 1 rfl) ?_
  refine go_pcI (As := [.int qa]) (rest := []) X (gX0_at qa hG hI) (cwV 1 hts (lw_V q143 q132 q133 q26 q134) rfl rfl rfl (by decide +kernel) ⟨Nat.le_of_ble_eq_true rfl, Nat.le_of_ble_eq_true rfl⟩) hK hP (va_recv hK hP (ci := 0) (q0 := 0) rfl rfl) rfl rfl hl.1 (Nat.le_of_ble_eq_true rfl) dX0_groupSize_2 ⟨Nat.zero_le _, Nat.zero_le _⟩ hS (fun r2 H1 locs p2 hk hS => ?_)
  have hP := hk _ hP
  clear hk
  generalize H1 = H at hP hS ⊢
  have hat := go_at_c hI.1 p2
  refine lv_istore_n (lv' := [(2, .int r2), (0, .ref (b 0)), (1, .int qa)]) hx hb dX0_groupSize_5 rfl hl (by decide) rfl (fun ls hl => ?_)
  refine lv_iload_n hx hb dX0_groupSize_6 rfl (lv_at hl 0 rfl) ?_
  refine lv_iconst (v := (-1)) hx hb dX0_groupSize_7 (by decide) ?_
  refine lv_icmp_eq (tgt := 16) hx hb dX0_groupSize_8 (by decide) (fun c8 => ?_) (fun c8 => ?_)
  · refine lv_iload_n hx hb dX0_groupSize_16 rfl (lv_at hl 0 rfl) ?_
    refine lv_iconst (v := nI 2) hx hb dX0_groupSize_17 (by decide) ?_
    refine lv_icmp_ne (tgt := 26) hx hb dX0_groupSize_18 (by decide) (fun c18 => ?_) (fun c18 => ?_)
    · refine lv_iconst (v := (-1)) hx hb dX0_groupSize_26 (by decide) ?_
      refine go_pri X hS dX0_groupSize_27 ?_
      exact (go_onq_n (hat.1 c8)).symm
    · exact absurd (c8.symm.trans c18) (by decide)
  · refine lv_iload_n hx hb dX0_groupSize_11 rfl (lv_at hl 0 rfl) ?_
    refine lv_iconst (v := nI 2) hx hb dX0_groupSize_12 (by decide) ?_
    refine lv_icmp_ne (tgt := 28) hx hb dX0_groupSize_13 (by decide) (fun c13 => ?_) (fun c13 => ?_)
    · obtain ⟨K, hK9, rfl, hB9⟩ := hat.2.2 c8 c13
      refine lv_aload_n hx hb dX0_groupSize_28 rfl (lv_at hl 1 rfl) ?_
      refine lv_iload_n hx hb dX0_groupSize_29 rfl (lv_at hl 2 rfl) ?_
      refine go_pcL (As := [.int (nI K)]) (rest := []) X (gX0_groupAt (nI K) K hK9 rfl (go_bd_in hG.1).1 (go_bd_in hG.1).2) (cwV 1 hts (lw_V q144 q146 qs9 q26 q147) rfl rfl rfl (by decide +kernel) ⟨Nat.le_of_ble_eq_true rfl, Nat.le_of_ble_eq_true rfl⟩) hK hP (va_recv hK hP (ci := 0) (q0 := 0) rfl rfl) rfl rfl hl.1 (Nat.le_of_ble_eq_true rfl) dX0_groupSize_30 ⟨Nat.zero_le _, Nat.zero_le _⟩ hS (fun r30 H1 locs p30 hk hS => ?_)
      have hP := hk _ hP
      clear hk
      generalize H1 = H at hP hS ⊢
      have hgp := go_gat hG.1 hI.1 hK9 hB9 p30
      refine lv_lstore_n (lv' := [(3, .long r30), (2, .int r2), (0, .ref (b 0)), (1, .int (nI K))]) hx hb dX0_groupSize_33 rfl hl (by decide) rfl (fun ls hl => ?_)
      refine lv_aload_n hx hb dX0_groupSize_34 rfl (lv_at hl 2 rfl) ?_
      refine lv_lload_n hx hb dX0_groupSize_35 rfl (lv_at hl 0 rfl) ?_
      refine go_pcI (As := [.long r30]) (rest := []) X (gX0_sizeOf r30) (cwV 1 hts (lw_V q111 q113 qs7 q26 q114) rfl rfl rfl (by decide +kernel) ⟨Nat.le_of_ble_eq_true rfl, Nat.le_of_ble_eq_true rfl⟩) hK hP (va_recv hK hP (ci := 0) (q0 := 0) rfl rfl) rfl rfl hl.1 (Nat.le_of_ble_eq_true rfl) dX0_groupSize_36 ⟨Nat.zero_le _, Nat.zero_le _⟩ hS (fun r36 H1 locs p36 hk hS => ?_)
      have hP := hk _ hP
      clear hk
      generalize H1 = H at hP hS ⊢
      refine go_pri X hS dX0_groupSize_39 ?_
      rw [p36, go_aGs_n hK9 hB9, go_cnt_c (fun j _ => hgp j)]
    · refine lv_iload_n hx hb dX0_groupSize_16 rfl (lv_at hl 0 rfl) ?_
      refine lv_iconst (v := nI 2) hx hb dX0_groupSize_17 (by decide) ?_
      refine lv_icmp_ne (tgt := 26) hx hb dX0_groupSize_18 (by decide) (fun c18 => ?_) (fun c18 => ?_)
      · exact absurd c13 c18
      · refine lv_bipush (v := (-2)) hx hb dX0_groupSize_21 (by decide) ?_
        refine lv_goto (tgt := 27) hx hb dX0_groupSize_23 (by decide) ?_
        refine go_pri X hS dX0_groupSize_27 ?_
        obtain ⟨K, hK9, rfl, hB9⟩ := hat.2.1 c18
        rw [go_aGs_2 hK9 hB9]
set_option maxHeartbeats 4000000 in
set_option maxRecDepth 100000 in
theorem gX0_liberties  (qa : Int32) (hG : go_GI a bl wh cn ob ow ot bt wt) (hI : go_AI a) : Met l yX0_liberties (ws_ yX0_liberties cX0_liberties 9 (some .int)) ({ frames := 3, cells := 0, slots := 0, locals := 83 } : Room) (go_pP D (go_G b cs bl wh cn ob ow ot bt wt tb tw) (go_Gt cs) [.ref (b 0), .int qa]) (go_pQi (fun r => r = go_aLib (go_B a) qa)) 0 0 (fun _ => False) := by
  refine go_pMet (by decide) (Nat.le_of_ble_eq_true rfl) ?_
  intro p e s m below meth c ls X hK hP hS hl
  have hl : lv_has ls 9 [(0, .ref (b 0)), (1, .int qa)] := hl
  obtain ⟨hx, hb, hml, hr, hlocks, hown, hts⟩ := id X
  have hP : va_P D go_cl (go_G b cs bl wh cn ob ow ot bt wt tb tw) s.heap := hP
  refine lv_aload_n hx hb dX0_liberties_0 rfl (lv_at hl 0 rfl) ?_
  refine lv_iload_n hx hb dX0_liberties_1 rfl (lv_at hl 1 rfl) ?_
  refine go_pcI (As := [.int qa]) (rest := []) X (gX0_at qa hG hI) (cwV 1 hts (lw_V q143 q132 q133 q26 q134) rfl rfl rfl (by decide +kernel) ⟨Nat.le_of_ble_eq_true rfl, Nat.le_of_ble_eq_true rfl⟩) hK hP (va_recv hK hP (ci := 0) (q0 := 0) rfl rfl) rfl rfl hl.1 (Nat.le_of_ble_eq_true rfl) dX0_liberties_2 ⟨Nat.zero_le _, Nat.zero_le _⟩ hS (fun r2 H1 locs p2 hk hS => ?_)
  have hP := hk _ hP
  clear hk
  generalize H1 = H at hP hS ⊢
  have hat := go_at_c hI.1 p2
  refine lv_istore_n (lv' := [(2, .int r2), (0, .ref (b 0)), (1, .int qa)]) hx hb dX0_liberties_5 rfl hl (by decide) rfl (fun ls hl => ?_)
  refine lv_iload_n hx hb dX0_liberties_6 rfl (lv_at hl 0 rfl) ?_
  refine lv_iconst (v := (-1)) hx hb dX0_liberties_7 (by decide) ?_
  refine lv_icmp_eq (tgt := 16) hx hb dX0_liberties_8 (by decide) (fun c8 => ?_) (fun c8 => ?_)
  · refine lv_iload_n hx hb dX0_liberties_16 rfl (lv_at hl 0 rfl) ?_
    refine lv_iconst (v := nI 2) hx hb dX0_liberties_17 (by decide) ?_
    refine lv_icmp_ne (tgt := 26) hx hb dX0_liberties_18 (by decide) (fun c18 => ?_) (fun c18 => ?_)
    · refine lv_iconst (v := (-1)) hx hb dX0_liberties_26 (by decide) ?_
      refine go_pri X hS dX0_liberties_27 ?_
      exact (go_onq_n (hat.1 c8)).symm
    · exact absurd (c8.symm.trans c18) (by decide)
  · refine lv_iload_n hx hb dX0_liberties_11 rfl (lv_at hl 0 rfl) ?_
    refine lv_iconst (v := nI 2) hx hb dX0_liberties_12 (by decide) ?_
    refine lv_icmp_ne (tgt := 28) hx hb dX0_liberties_13 (by decide) (fun c13 => ?_) (fun c13 => ?_)
    · obtain ⟨K, hK9, rfl, hB9⟩ := hat.2.2 c8 c13
      refine lv_aload_n hx hb dX0_liberties_28 rfl (lv_at hl 1 rfl) ?_
      refine lv_iload_n hx hb dX0_liberties_29 rfl (lv_at hl 2 rfl) ?_
      refine go_pcL (As := [.int (nI K)]) (rest := []) X (gX0_groupAt (nI K) K hK9 rfl (go_bd_in hG.1).1 (go_bd_in hG.1).2) (cwV 1 hts (lw_V q144 q146 qs9 q26 q147) rfl rfl rfl (by decide +kernel) ⟨Nat.le_of_ble_eq_true rfl, Nat.le_of_ble_eq_true rfl⟩) hK hP (va_recv hK hP (ci := 0) (q0 := 0) rfl rfl) rfl rfl hl.1 (Nat.le_of_ble_eq_true rfl) dX0_liberties_30 ⟨Nat.zero_le _, Nat.zero_le _⟩ hS (fun r30 H1 locs p30 hk hS => ?_)
      have hP := hk _ hP
      clear hk
      generalize H1 = H at hP hS ⊢
      have hgp := go_gat hG.1 hI.1 hK9 hB9 p30
      refine lv_lstore_n (lv' := [(3, .long r30), (2, .int r2), (0, .ref (b 0)), (1, .int (nI K))]) hx hb dX0_liberties_33 rfl hl (by decide) rfl (fun ls hl => ?_)
      refine lv_aload_n hx hb dX0_liberties_34 rfl (lv_at hl 2 rfl) ?_
      refine go_pcL (As := []) (rest := []) X (gX0_empty ) (cwV 0 hts (lw_V q152 q154 qs10 q26 q155) rfl rfl rfl (by decide +kernel) ⟨Nat.le_of_ble_eq_true rfl, Nat.le_of_ble_eq_true rfl⟩) hK hP (va_recv hK hP (ci := 0) (q0 := 0) rfl rfl) rfl rfl hl.1 (Nat.le_of_ble_eq_true rfl) dX0_liberties_35 ⟨Nat.zero_le _, Nat.zero_le _⟩ hS (fun r35 H1 locs p35 hk hS => ?_)
      have hP := hk _ hP
      clear hk
      generalize H1 = H at hP hS ⊢
      refine lv_lstore (lv' := [(5, .long r35), (3, .long r30), (2, .int r2), (0, .ref (b 0)), (1, .int (nI K))]) hx hb dX0_liberties_38 hl (by decide) rfl (fun ls hl => ?_)
      refine lv_aload_n hx hb dX0_liberties_40 rfl (lv_at hl 3 rfl) ?_
      refine lv_lload_n hx hb dX0_liberties_41 rfl (lv_at hl 1 rfl) ?_
      refine go_pcL (As := [.long r30]) (rest := []) X (gX0_around r30) (cwV 1 hts (lw_V q103 q105 qs5 q26 q106) rfl rfl rfl (by decide +kernel) ⟨Nat.le_of_ble_eq_true rfl, Nat.le_of_ble_eq_true rfl⟩) hK hP (va_recv hK hP (ci := 0) (q0 := 0) rfl rfl) rfl rfl hl.1 (Nat.le_of_ble_eq_true rfl) dX0_liberties_42 ⟨Nat.zero_le _, Nat.zero_le _⟩ hS (fun r42 H1 locs p42 hk hS => ?_)
      have hP := hk _ hP
      clear hk
      generalize H1 = H at hP hS ⊢
      refine lv_lload hx hb dX0_liberties_45 (lv_at hl 0 rfl) ?_
      refine lv_land hx hb dX0_liberties_47 ?_
      refine lv_topl (fun v47 e47 => ?_)
      refine lv_lstore (lv' := [(7, .long v47), (5, .long r35), (3, .long r30), (2, .int r2), (0, .ref (b 0)), (1, .int (nI K))]) hx hb dX0_liberties_48 hl (by decide) rfl (fun ls hl => ?_)
      refine lv_aload_n hx hb dX0_liberties_50 rfl (lv_at hl 4 rfl) ?_
      refine lv_lload hx hb dX0_liberties_51 (lv_at hl 0 rfl) ?_
      refine go_pcI (As := [.long v47]) (rest := []) X (gX0_sizeOf v47) (cwV 1 hts (lw_V q111 q113 qs7 q26 q114) rfl rfl rfl (by decide +kernel) ⟨Nat.le_of_ble_eq_true rfl, Nat.le_of_ble_eq_true rfl⟩) hK hP (va_recv hK hP (ci := 0) (q0 := 0) rfl rfl) rfl rfl hl.1 (Nat.le_of_ble_eq_true rfl) dX0_liberties_53 ⟨Nat.zero_le _, Nat.zero_le _⟩ hS (fun r53 H1 locs p53 hk hS => ?_)
      have hP := hk _ hP
      clear hk
      generalize H1 = H at hP hS ⊢
      refine go_pri X hS dX0_liberties_56 ?_
      rw [p53, go_aLib_n hK9 hB9, e47, p42, p35]
      unfold go_nl
      rw [go_cnt_c (fun j _ => go_libs (go_empty hG.1 hI.1) hgp j)]
    · refine lv_iload_n hx hb dX0_liberties_16 rfl (lv_at hl 0 rfl) ?_
      refine lv_iconst (v := nI 2) hx hb dX0_liberties_17 (by decide) ?_
      refine lv_icmp_ne (tgt := 26) hx hb dX0_liberties_18 (by decide) (fun c18 => ?_) (fun c18 => ?_)
      · exact absurd c13 c18
      · refine lv_bipush (v := (-2)) hx hb dX0_liberties_21 (by decide) ?_
        refine lv_goto (tgt := 27) hx hb dX0_liberties_23 (by decide) ?_
        refine go_pri X hS dX0_liberties_27 ?_
        obtain ⟨K, hK9, rfl, hB9⟩ := hat.2.1 c18
        rw [go_aLib_2 hK9 hB9]
set_option maxHeartbeats 4000000 in
set_option maxRecDepth 100000 in
theorem gX0_region  (qa : Int32) (hG : go_GI a bl wh cn ob ow ot bt wt) (hI : go_AI a) : Met l yX0_region (ws_ yX0_region cX0_region 8 (some .int)) ({ frames := 2, cells := 0, slots := 0, locals := 60 } : Room) (go_pP D (go_G b cs bl wh cn ob ow ot bt wt tb tw) (go_Gt cs) [.ref (b 0), .int qa]) (go_pQi (fun r => r = go_aReg (go_B a) qa)) 0 0 (fun _ => False) := by
  refine go_pMet (by decide) (Nat.le_of_ble_eq_true rfl) ?_
  intro p e s m below meth c ls X hK hP hS hl
  have hl : lv_has ls 8 [(0, .ref (b 0)), (1, .int qa)] := hl
  obtain ⟨hx, hb, hml, hr, hlocks, hown, hts⟩ := id X
  have hP : va_P D go_cl (go_G b cs bl wh cn ob ow ot bt wt tb tw) s.heap := hP
  refine lv_aload_n hx hb dX0_region_0 rfl (lv_at hl 0 rfl) ?_
  refine lv_iload_n hx hb dX0_region_1 rfl (lv_at hl 1 rfl) ?_
  refine go_pcI (As := [.int qa]) (rest := []) X (gX0_badPoint qa) (cwV 1 hts (lw_V q91 q93 qs2 q26 q94) rfl rfl rfl (by decide +kernel) ⟨Nat.le_of_ble_eq_true rfl, Nat.le_of_ble_eq_true rfl⟩) hK hP (va_recv hK hP (ci := 0) (q0 := 0) rfl rfl) rfl rfl hl.1 (Nat.le_of_ble_eq_true rfl) dX0_region_2 ⟨Nat.zero_le _, Nat.zero_le _⟩ hS (fun r2 H1 locs p2 hk hS => ?_)
  have hP := hk _ hP
  clear hk
  generalize H1 = H at hP hS ⊢
  refine lv_if_eq (tgt := 10) hx hb dX0_region_5 (by decide) (fun c5 => ?_) (fun c5 => ?_)
  · obtain ⟨K, hK9, rfl⟩ := (go_bz p2).1 c5
    refine lv_aload_n hx hb dX0_region_10 rfl (lv_at hl 0 rfl) ?_
    refine go_pcL (As := []) (rest := []) X (gX0_empty ) (cwV 0 hts (lw_V q152 q154 qs10 q26 q155) rfl rfl rfl (by decide +kernel) ⟨Nat.le_of_ble_eq_true rfl, Nat.le_of_ble_eq_true rfl⟩) hK hP (va_recv hK hP (ci := 0) (q0 := 0) rfl rfl) rfl rfl hl.1 (Nat.le_of_ble_eq_true rfl) dX0_region_11 ⟨Nat.zero_le _, Nat.zero_le _⟩ hS (fun r11 H1 locs p11 hk hS => ?_)
    have hP := hk _ hP
    clear hk
    generalize H1 = H at hP hS ⊢
    have ho : go_st (go_B a) 2 r11 := by rw [p11]; exact go_empty hG.1 hI.1
    refine lv_lstore_n (lv' := [(2, .long r11), (0, .ref (b 0)), (1, .int (nI K))]) hx hb dX0_region_14 rfl hl (by decide) rfl (fun ls hl => ?_)
    refine lv_lconst (v := 1) hx hb dX0_region_15 (by decide) ?_
    refine lv_iload_n hx hb dX0_region_16 rfl (lv_at hl 2 rfl) ?_
    refine lv_lshl hx hb dX0_region_17 rfl ?_
    refine lv_topl (fun v17 e17 => ?_)
    refine lv_lstore (lv' := [(4, .long v17), (2, .long r11), (0, .ref (b 0)), (1, .int (nI K))]) hx hb dX0_region_18 hl (by decide) rfl (fun ls hl => ?_)
    refine lv_lload_n hx hb dX0_region_20 rfl (lv_at hl 1 rfl) ?_
    refine lv_lload hx hb dX0_region_21 (lv_at hl 0 rfl) ?_
    refine lv_land hx hb dX0_region_23 ?_
    refine lv_topl (fun v23 e23 => ?_)
    refine lv_lconst (v := 0) hx hb dX0_region_24 (by decide) ?_
    refine W.lcmp hx hb dX0_region_25 ?_
    refine lv_if_ne (tgt := 32) hx hb dX0_region_26 (by decide) (fun c26 => ?_) (fun c26 => ?_)
    · have c26 : ¬ v23 = 0 := fun h => c26 (go_cmp0.mpr h)
      have hB9 : go_B a K = 2 := by
        by_cases c : go_m r11 K
        · exact ((ho K).mp c).2
        · exact absurd (by rw [e23, e17]; exact (go_m_bz r11 (by omega)).mpr c) c26
      refine lv_aload_n hx hb dX0_region_32 rfl (lv_at hl 2 rfl) ?_
      refine lv_lload hx hb dX0_region_33 (lv_at hl 0 rfl) ?_
      refine lv_lload_n hx hb dX0_region_35 rfl (lv_at hl 1 rfl) ?_
      refine go_pcL (As := [.long v17, .long r11]) (rest := []) X (gX0_grown v17 r11 (go_st_in ho)) (cwV 2 hts (lw_V q107 q109 qs6 q26 q110) rfl rfl rfl (by decide +kernel) ⟨Nat.le_of_ble_eq_true rfl, Nat.le_of_ble_eq_true rfl⟩) hK hP (va_recv hK hP (ci := 0) (q0 := 0) rfl rfl) rfl rfl hl.1 (Nat.le_of_ble_eq_true rfl) dX0_region_36 ⟨Nat.zero_le _, Nat.zero_le _⟩ hS (fun r36 H1 locs p36 hk hS => ?_)
      have hP := hk _ hP
      clear hk
      generalize H1 = H at hP hS ⊢
      refine lv_lstore (lv' := [(6, .long r36), (4, .long v17), (2, .long r11), (0, .ref (b 0)), (1, .int (nI K))]) hx hb dX0_region_39 hl (by decide) rfl (fun ls hl => ?_)
      refine lv_aload_n hx hb dX0_region_41 rfl (lv_at hl 3 rfl) ?_
      refine lv_lload hx hb dX0_region_42 (lv_at hl 0 rfl) ?_
      refine go_pcI (As := [.long r36]) (rest := []) X (gX0_sizeOf r36) (cwV 1 hts (lw_V q111 q113 qs7 q26 q114) rfl rfl rfl (by decide +kernel) ⟨Nat.le_of_ble_eq_true rfl, Nat.le_of_ble_eq_true rfl⟩) hK hP (va_recv hK hP (ci := 0) (q0 := 0) rfl rfl) rfl rfl hl.1 (Nat.le_of_ble_eq_true rfl) dX0_region_44 ⟨Nat.zero_le _, Nat.zero_le _⟩ hS (fun r44 H1 locs p44 hk hS => ?_)
      have hP := hk _ hP
      clear hk
      generalize H1 = H at hP hS ⊢
      refine go_pri X hS dX0_region_47 ?_
      rw [p44, go_aReg_2 hK9 hB9, go_cnt_c (fun j _ => ?_)]
      refine (p36 j).trans (go_rc_c (fun a9 => ?_) (fun a9 => ?_) j)
      · rw [ho a9, hB9]
      · rw [e17]; exact go_m_b (by omega) a9
    · have c26 : v23 = 0 := go_cmp0.mp c26
      have hB9 : ¬ go_B a K = 2 := fun e => by
        rw [e23, e17] at c26
        exact (go_m_bz r11 (by omega)).mp c26 ((ho K).mpr ⟨hK9, e⟩)
      refine lv_bipush (v := (-2)) hx hb dX0_region_29 (by decide) ?_
      refine go_pri X hS dX0_region_31 ?_
      rw [go_aReg_n hK9 hB9]
  · have hq := (go_bz p2).2 c5
    refine lv_iconst (v := (-1)) hx hb dX0_region_8 (by decide) ?_
    refine go_pri X hS dX0_region_9 ?_
    exact (go_onq_n hq).symm
set_option maxHeartbeats 4000000 in
set_option maxRecDepth 100000 in
theorem gX0_score  (pa : Int32) (hG : go_GI a bl wh cn ob ow ot bt wt) (hI : go_AI a) : Met l yX0_score (ws_ yX0_score cX0_score 16 (some .int)) ({ frames := 2, cells := 0, slots := 0, locals := 60 } : Room) (go_pP D (go_G b cs bl wh cn ob ow ot bt wt tb tw) (go_Gt cs) [.ref (b 0), .int pa]) (go_pQi (fun r => r = go_aSc (go_B a) pa)) 0 0 (fun _ => False) := by
  refine go_pMet (by decide) (Nat.le_of_ble_eq_true rfl) ?_
  intro p e s m below meth c ls X hK hP hS hl
  have hl : lv_has ls 16 [(0, .ref (b 0)), (1, .int pa)] := hl
  obtain ⟨hx, hb, hml, hr, hlocks, hown, hts⟩ := id X
  have hP : va_P D go_cl (go_G b cs bl wh cn ob ow ot bt wt tb tw) s.heap := hP
  refine lv_aload_n hx hb dX0_score_0 rfl (lv_at hl 0 rfl) ?_
  refine lv_iload_n hx hb dX0_score_1 rfl (lv_at hl 1 rfl) ?_
  refine go_pcI (As := [.int pa]) (rest := []) X (gX0_badPlayer pa) (cwV 1 hts (lw_V q87 q89 qs1 q26 q90) rfl rfl rfl (by decide +kernel) ⟨Nat.le_of_ble_eq_true rfl, Nat.le_of_ble_eq_true rfl⟩) hK hP (va_recv hK hP (ci := 0) (q0 := 0) rfl rfl) rfl rfl hl.1 (Nat.le_of_ble_eq_true rfl) dX0_score_2 ⟨Nat.zero_le _, Nat.zero_le _⟩ hS (fun r2 H1 locs p2 hk hS => ?_)
  have hP := hk _ hP
  clear hk
  generalize H1 = H at hP hS ⊢
  refine lv_if_eq (tgt := 10) hx hb dX0_score_5 (by decide) (fun c5 => ?_) (fun c5 => ?_)
  · obtain ⟨P, hP2, rfl⟩ := (go_bz p2).1 c5
    refine lv_aload_n hx hb dX0_score_10 rfl (lv_at hl 0 rfl) ?_
    refine lv_iload_n hx hb dX0_score_11 rfl (lv_at hl 1 rfl) ?_
    refine go_pcL (As := [.int (nI P)]) (rest := []) X (gX0_stones (nI P)) (cwV 1 hts (lw_V q95 q97 qs3 q26 q98) rfl rfl rfl (by decide +kernel) ⟨Nat.le_of_ble_eq_true rfl, Nat.le_of_ble_eq_true rfl⟩) hK hP (va_recv hK hP (ci := 0) (q0 := 0) rfl rfl) rfl rfl hl.1 (Nat.le_of_ble_eq_true rfl) dX0_score_12 ⟨Nat.zero_le _, Nat.zero_le _⟩ hS (fun r12 H1 locs p12 hk hS => ?_)
    have hP := hk _ hP
    clear hk
    generalize H1 = H at hP hS ⊢
    have hmi := go_st_of hG.1 hP2 p12
    refine lv_lstore_n (lv' := [(2, .long r12), (0, .ref (b 0)), (1, .int (nI P))]) hx hb dX0_score_15 rfl hl (by decide) rfl (fun ls hl => ?_)
    refine lv_aload_n hx hb dX0_score_16 rfl (lv_at hl 1 rfl) ?_
    refine lv_iconst (v := nI 1) hx hb dX0_score_17 (by decide) ?_
    refine lv_iload_n hx hb dX0_score_18 rfl (lv_at hl 2 rfl) ?_
    refine lv_isub hx hb dX0_score_19 ?_
    refine lv_topi (fun v19 e19 => ?_)
    obtain rfl : v19 = nI (1 - P) := e19.trans (pk_sub (by omega))
    refine go_pcL (As := [.int (nI (1 - P))]) (rest := []) X (gX0_stones (nI (1 - P))) (cwV 1 hts (lw_V q95 q97 qs3 q26 q98) rfl rfl rfl (by decide +kernel) ⟨Nat.le_of_ble_eq_true rfl, Nat.le_of_ble_eq_true rfl⟩) hK hP (va_recv hK hP (ci := 0) (q0 := 0) rfl rfl) rfl rfl hl.1 (Nat.le_of_ble_eq_true rfl) dX0_score_20 ⟨Nat.zero_le _, Nat.zero_le _⟩ hS (fun r20 H1 locs p20 hk hS => ?_)
    have hP := hk _ hP
    clear hk
    generalize H1 = H at hP hS ⊢
    have hth := go_st_of hG.1 (show 1 - P < 2 by omega) p20
    refine lv_lstore (lv' := [(4, .long r20), (2, .long r12), (0, .ref (b 0)), (1, .int (nI P))]) hx hb dX0_score_23 hl (by decide) rfl (fun ls hl => ?_)
    refine lv_aload_n hx hb dX0_score_25 rfl (lv_at hl 2 rfl) ?_
    refine go_pcL (As := []) (rest := []) X (gX0_empty ) (cwV 0 hts (lw_V q152 q154 qs10 q26 q155) rfl rfl rfl (by decide +kernel) ⟨Nat.le_of_ble_eq_true rfl, Nat.le_of_ble_eq_true rfl⟩) hK hP (va_recv hK hP (ci := 0) (q0 := 0) rfl rfl) rfl rfl hl.1 (Nat.le_of_ble_eq_true rfl) dX0_score_26 ⟨Nat.zero_le _, Nat.zero_le _⟩ hS (fun r26 H1 locs p26 hk hS => ?_)
    have hP := hk _ hP
    clear hk
    generalize H1 = H at hP hS ⊢
    have ho : go_st (go_B a) 2 r26 := by rw [p26]; exact go_empty hG.1 hI.1
    refine lv_lstore (lv' := [(6, .long r26), (4, .long r20), (2, .long r12), (0, .ref (b 0)), (1, .int (nI P))]) hx hb dX0_score_29 hl (by decide) rfl (fun ls hl => ?_)
    refine lv_aload_n hx hb dX0_score_31 rfl (lv_at hl 3 rfl) ?_
    refine lv_lload hx hb dX0_score_32 (lv_at hl 1 rfl) ?_
    refine go_pcL (As := [.long r20]) (rest := []) X (gX0_around r20) (cwV 1 hts (lw_V q103 q105 qs5 q26 q106) rfl rfl rfl (by decide +kernel) ⟨Nat.le_of_ble_eq_true rfl, Nat.le_of_ble_eq_true rfl⟩) hK hP (va_recv hK hP (ci := 0) (q0 := 0) rfl rfl) rfl rfl hl.1 (Nat.le_of_ble_eq_true rfl) dX0_score_34 ⟨Nat.zero_le _, Nat.zero_le _⟩ hS (fun r34 H1 locs p34 hk hS => ?_)
    have hP := hk _ hP
    clear hk
    generalize H1 = H at hP hS ⊢
    refine lv_lload hx hb dX0_score_37 (lv_at hl 0 rfl) ?_
    refine lv_land hx hb dX0_score_39 ?_
    refine lv_topl (fun v39 e39 => ?_)
    refine lv_lstore (lv' := [(8, .long v39), (6, .long r26), (4, .long r20), (2, .long r12), (0, .ref (b 0)), (1, .int (nI P))]) hx hb dX0_score_40 hl (by decide) rfl (fun ls hl => ?_)
    refine lv_aload_n hx hb dX0_score_42 rfl (lv_at hl 4 rfl) ?_
    refine lv_lload_n hx hb dX0_score_43 rfl (lv_at hl 3 rfl) ?_
    refine go_pcL (As := [.long r12]) (rest := []) X (gX0_around r12) (cwV 1 hts (lw_V q103 q105 qs5 q26 q106) rfl rfl rfl (by decide +kernel) ⟨Nat.le_of_ble_eq_true rfl, Nat.le_of_ble_eq_true rfl⟩) hK hP (va_recv hK hP (ci := 0) (q0 := 0) rfl rfl) rfl rfl hl.1 (Nat.le_of_ble_eq_true rfl) dX0_score_44 ⟨Nat.zero_le _, Nat.zero_le _⟩ hS (fun r44 H1 locs p44 hk hS => ?_)
    have hP := hk _ hP
    clear hk
    generalize H1 = H at hP hS ⊢
    refine lv_lload hx hb dX0_score_47 (lv_at hl 1 rfl) ?_
    refine lv_land hx hb dX0_score_49 ?_
    refine lv_topl (fun v49 e49 => ?_)
    refine lv_lstore (lv' := [(10, .long v49), (8, .long v39), (6, .long r26), (4, .long r20), (2, .long r12), (0, .ref (b 0)), (1, .int (nI P))]) hx hb dX0_score_50 hl (by decide) rfl (fun ls hl => ?_)
    refine lv_aload_n hx hb dX0_score_52 rfl (lv_at hl 5 rfl) ?_
    refine lv_lload hx hb dX0_score_53 (lv_at hl 1 rfl) ?_
    refine lv_lload hx hb dX0_score_55 (lv_at hl 2 rfl) ?_
    refine go_pcL (As := [.long v39, .long r26]) (rest := []) X (gX0_grown v39 r26 (go_st_in ho)) (cwV 2 hts (lw_V q107 q109 qs6 q26 q110) rfl rfl rfl (by decide +kernel) ⟨Nat.le_of_ble_eq_true rfl, Nat.le_of_ble_eq_true rfl⟩) hK hP (va_recv hK hP (ci := 0) (q0 := 0) rfl rfl) rfl rfl hl.1 (Nat.le_of_ble_eq_true rfl) dX0_score_57 ⟨Nat.zero_le _, Nat.zero_le _⟩ hS (fun r57 H1 locs p57 hk hS => ?_)
    have hP := hk _ hP
    clear hk
    generalize H1 = H at hP hS ⊢
    refine lv_lstore (lv' := [(12, .long r57), (10, .long v49), (8, .long v39), (6, .long r26), (4, .long r20), (2, .long r12), (0, .ref (b 0)), (1, .int (nI P))]) hx hb dX0_score_60 hl (by decide) rfl (fun ls hl => ?_)
    refine lv_aload_n hx hb dX0_score_62 rfl (lv_at hl 6 rfl) ?_
    refine lv_lload hx hb dX0_score_63 (lv_at hl 1 rfl) ?_
    refine lv_lload hx hb dX0_score_65 (lv_at hl 3 rfl) ?_
    refine go_pcL (As := [.long v49, .long r26]) (rest := []) X (gX0_grown v49 r26 (go_st_in ho)) (cwV 2 hts (lw_V q107 q109 qs6 q26 q110) rfl rfl rfl (by decide +kernel) ⟨Nat.le_of_ble_eq_true rfl, Nat.le_of_ble_eq_true rfl⟩) hK hP (va_recv hK hP (ci := 0) (q0 := 0) rfl rfl) rfl rfl hl.1 (Nat.le_of_ble_eq_true rfl) dX0_score_67 ⟨Nat.zero_le _, Nat.zero_le _⟩ hS (fun r67 H1 locs p67 hk hS => ?_)
    have hP := hk _ hP
    clear hk
    generalize H1 = H at hP hS ⊢
    refine lv_lstore (lv' := [(14, .long r67), (12, .long r57), (10, .long v49), (8, .long v39), (6, .long r26), (4, .long r20), (2, .long r12), (0, .ref (b 0)), (1, .int (nI P))]) hx hb dX0_score_70 hl (by decide) rfl (fun ls hl => ?_)
    refine lv_aload_n hx hb dX0_score_72 rfl (lv_at hl 7 rfl) ?_
    refine lv_lload_n hx hb dX0_score_73 rfl (lv_at hl 6 rfl) ?_
    refine lv_lload hx hb dX0_score_74 (lv_at hl 0 rfl) ?_
    refine lv_lload hx hb dX0_score_76 (lv_at hl 1 rfl) ?_
    refine lv_ldc2 hx hb hown (hts _ q36) dX0_score_78 ?_
    refine lv_lxor hx hb dX0_score_81 ?_
    refine lv_topl (fun v81 e81 => ?_)
    refine lv_land hx hb dX0_score_82 ?_
    refine lv_topl (fun v82 e82 => ?_)
    refine lv_lor hx hb dX0_score_83 ?_
    refine lv_topl (fun v83 e83 => ?_)
    refine go_pcI (As := [.long v83]) (rest := []) X (gX0_sizeOf v83) (cwV 1 hts (lw_V q111 q113 qs7 q26 q114) rfl rfl rfl (by decide +kernel) ⟨Nat.le_of_ble_eq_true rfl, Nat.le_of_ble_eq_true rfl⟩) hK hP (va_recv hK hP (ci := 0) (q0 := 0) rfl rfl) rfl rfl hl.1 (Nat.le_of_ble_eq_true rfl) dX0_score_84 ⟨Nat.zero_le _, Nat.zero_le _⟩ hS (fun r84 H1 locs p84 hk hS => ?_)
    have hP := hk _ hP
    clear hk
    generalize H1 = H at hP hS ⊢
    refine go_pri X hS dX0_score_87 ?_
    rw [p84, go_aSc_y hP2, e83, e82, e81, go_cnt_c (fun j _ => go_score hP2 hmi (go_near ho hmi (by rw [e49, p44]) p67) (go_near ho hth (by rw [e39, p34]) p57) j)]
  · have hq := (go_bz p2).2 c5
    refine lv_iconst (v := (-1)) hx hb dX0_score_8 (by decide) ?_
    refine go_pri X hS dX0_score_9 ?_
    exact (go_onp_n hq).symm
set_option maxHeartbeats 4000000 in
set_option maxRecDepth 100000 in
theorem gX0_groups  (pa : Int32) (hG : go_GI a bl wh cn ob ow ot bt wt) (hI : go_AI a) : Met l yX0_groups (ws_ yX0_groups cX0_groups 10 (some .int)) ({ frames := 2, cells := 0, slots := 0, locals := 60 } : Room) (go_pP D (go_G b cs bl wh cn ob ow ot bt wt tb tw) (go_Gt cs) [.ref (b 0), .int pa]) (go_pQi (fun r => r = go_aGrp (go_B a) pa)) 0 0 (fun _ => False) := by
  refine go_pMet (by decide) (Nat.le_of_ble_eq_true rfl) ?_
  intro p e s m below meth c ls X hK hP hS hl
  have hl : lv_has ls 10 [(0, .ref (b 0)), (1, .int pa)] := hl
  obtain ⟨hx, hb, hml, hr, hlocks, hown, hts⟩ := id X
  have hP : va_P D go_cl (go_G b cs bl wh cn ob ow ot bt wt tb tw) s.heap := hP
  refine lv_aload_n hx hb dX0_groups_0 rfl (lv_at hl 0 rfl) ?_
  refine lv_iload_n hx hb dX0_groups_1 rfl (lv_at hl 1 rfl) ?_
  refine go_pcI (As := [.int pa]) (rest := []) X (gX0_badPlayer pa) (cwV 1 hts (lw_V q87 q89 qs1 q26 q90) rfl rfl rfl (by decide +kernel) ⟨Nat.le_of_ble_eq_true rfl, Nat.le_of_ble_eq_true rfl⟩) hK hP (va_recv hK hP (ci := 0) (q0 := 0) rfl rfl) rfl rfl hl.1 (Nat.le_of_ble_eq_true rfl) dX0_groups_2 ⟨Nat.zero_le _, Nat.zero_le _⟩ hS (fun r2 H1 locs p2 hk hS => ?_)
  have hP := hk _ hP
  clear hk
  generalize H1 = H at hP hS ⊢
  refine lv_if_eq (tgt := 10) hx hb dX0_groups_5 (by decide) (fun c5 => ?_) (fun c5 => ?_)
  · obtain ⟨P, hP2, rfl⟩ := (go_bz p2).1 c5
    refine lv_aload_n hx hb dX0_groups_10 rfl (lv_at hl 0 rfl) ?_
    refine lv_iload_n hx hb dX0_groups_11 rfl (lv_at hl 1 rfl) ?_
    refine go_pcL (As := [.int (nI P)]) (rest := []) X (gX0_stones (nI P)) (cwV 1 hts (lw_V q95 q97 qs3 q26 q98) rfl rfl rfl (by decide +kernel) ⟨Nat.le_of_ble_eq_true rfl, Nat.le_of_ble_eq_true rfl⟩) hK hP (va_recv hK hP (ci := 0) (q0 := 0) rfl rfl) rfl rfl hl.1 (Nat.le_of_ble_eq_true rfl) dX0_groups_12 ⟨Nat.zero_le _, Nat.zero_le _⟩ hS (fun r12 H1 locs p12 hk hS => ?_)
    have hP := hk _ hP
    clear hk
    generalize H1 = H at hP hS ⊢
    have hmi := go_st_of hG.1 hP2 p12
    refine lv_lstore_n (lv' := [(2, .long r12), (0, .ref (b 0)), (1, .int (nI P))]) hx hb dX0_groups_15 rfl hl (by decide) rfl (fun ls hl => ?_)
    refine lv_iconst (v := nI 0) hx hb dX0_groups_16 (by decide) ?_
    refine lv_istore (lv' := [(4, .int (nI 0)), (2, .long r12), (0, .ref (b 0)), (1, .int (nI P))]) hx hb dX0_groups_17 hl (by decide) rfl (fun ls hl => ?_)
    refine lv_iconst (v := nI 0) hx hb dX0_groups_19 (by decide) ?_
    refine lv_istore (lv' := [(5, .int (nI 0)), (4, .int (nI 0)), (2, .long r12), (0, .ref (b 0)), (1, .int (nI P))]) hx hb dX0_groups_20 hl (by decide) rfl (fun ls hl => ?_)
    have lp22 : ∀ (n : Nat) (k ct : Nat) (lf : Int64) , 50 ≤ k + n → k ≤ 49 → go_lf (go_B a) P k lf → ct = go_cnt (fun j => go_hd (go_B a) P j ∧ ¬ go_m lf j) 49 → ∀ (H : Heap) (locs : List Loc) (ls : Array Slot), va_P D go_cl (go_G b cs bl wh cn ob ow ot bt wt tb tw) H → va_S (fun _ => False) s.heap H locs → lv_has ls 10 [(0, .ref (b 0)), (2, .long lf), (4, .int (nI ct)), (5, .int (nI k))] → W p l e ({ frames := 2, cells := 0, slots := 0, locals := 60 } : Room) s m ([.ref (b 0), .int (nI P)] : List Value).toArray below meth c H locs 0 0 (MQ below (go_pQi (fun r => r = go_aGrp (go_B a) (nI P))) ([.ref (b 0), .int (nI P)] : List Value).toArray s 0 0 (fun _ => False)) (F0 m 22 ls []) := by
      intro n
      induction n with
      | zero =>
        intro k ct lf  hn hk hlf hct
        exact absurd hn (by omega)
      | succ n ih =>
        intro k ct lf  hn hk hlf hct H locs ls hP hS hl
        refine lv_iload hx hb dX0_groups_22 (lv_at hl 3 rfl) ?_
        refine lv_bipush (v := nI 49) hx hb dX0_groups_24 (by decide) ?_
        refine lv_icmp_ge (tgt := 69) hx hb dX0_groups_26 (by decide) (fun c26 => ?_) (fun c26 => ?_)
        · have c26 : 49 ≤ k := (nI_leI (a := 49) (b := k) (by omega) (by omega)).mp c26
          refine lv_iload hx hb dX0_groups_69 (lv_at hl 2 rfl) ?_
          refine go_pri X hS dX0_groups_71 ?_
          rw [hct, go_aGrp_y hP2, go_left0 hlf (Or.inl c26)]
        · have c26 : ¬ 49 ≤ k := fun h => c26 ((nI_leI (a := 49) (b := k) (by omega) (by omega)).mpr h)
          refine lv_lload_n hx hb dX0_groups_29 rfl (lv_at hl 1 rfl) ?_
          refine lv_lconst (v := 0) hx hb dX0_groups_30 (by decide) ?_
          refine W.lcmp hx hb dX0_groups_31 ?_
          refine lv_if_eq (tgt := 69) hx hb dX0_groups_32 (by decide) (fun c32 => ?_) (fun c32 => ?_)
          · have c32 : lf = 0 := go_cmp0.mp c32
            refine lv_iload hx hb dX0_groups_69 (lv_at hl 2 rfl) ?_
            refine go_pri X hS dX0_groups_71 ?_
            rw [hct, go_aGrp_y hP2, go_left0 hlf (Or.inr c32)]
          · have c32 : ¬ lf = 0 := fun h => c32 (go_cmp0.mpr h)
            have hct49 := go_cnt_le (fun j => go_hd (go_B a) P j ∧ ¬ go_m lf j) 49
            refine lv_aload_n hx hb dX0_groups_35 rfl (lv_at hl 0 rfl) ?_
            refine lv_lload_n hx hb dX0_groups_36 rfl (lv_at hl 1 rfl) ?_
            refine go_pcL (As := [.long lf]) (rest := []) X (gX0_lowest lf) (cwV 1 hts (lw_V q168 q170 qs11 q26 q171) rfl rfl rfl (by decide +kernel) ⟨Nat.le_of_ble_eq_true rfl, Nat.le_of_ble_eq_true rfl⟩) hK hP (va_recv hK hP (ci := 0) (q0 := 0) rfl rfl) rfl rfl hl.1 (Nat.le_of_ble_eq_true rfl) dX0_groups_37 ⟨Nat.zero_le _, Nat.zero_le _⟩ hS (fun r37 H1 locs p37 hk hS => ?_)
            have hP := hk _ hP
            clear hk
            generalize H1 = H at hP hS ⊢
            refine lv_lstore (lv' := [(6, .long r37), (0, .ref (b 0)), (2, .long lf), (4, .int (nI ct)), (5, .int (nI k))]) hx hb dX0_groups_40 hl (by decide) rfl (fun ls hl => ?_)
            refine lv_aload_n hx hb dX0_groups_42 rfl (lv_at hl 1 rfl) ?_
            refine lv_lload hx hb dX0_groups_43 (lv_at hl 0 rfl) ?_
            refine lv_lload_n hx hb dX0_groups_45 rfl (lv_at hl 2 rfl) ?_
            refine go_pcL (As := [.long r37, .long lf]) (rest := []) X (gX0_grown r37 lf (fun j hj => (hlf.1 j hj).1)) (cwV 2 hts (lw_V q107 q109 qs6 q26 q110) rfl rfl rfl (by decide +kernel) ⟨Nat.le_of_ble_eq_true rfl, Nat.le_of_ble_eq_true rfl⟩) hK hP (va_recv hK hP (ci := 0) (q0 := 0) rfl rfl) rfl rfl hl.1 (Nat.le_of_ble_eq_true rfl) dX0_groups_46 ⟨Nat.zero_le _, Nat.zero_le _⟩ hS (fun r46 H1 locs p46 hk hS => ?_)
            have hP := hk _ hP
            clear hk
            generalize H1 = H at hP hS ⊢
            obtain ⟨F, f1, f2, f3, f4, f5, f6⟩ := go_lf_s hlf c32 p37 p46
            refine lv_lstore (lv' := [(8, .long r46), (6, .long r37), (0, .ref (b 0)), (2, .long lf), (4, .int (nI ct)), (5, .int (nI k))]) hx hb dX0_groups_49 hl (by decide) rfl (fun ls hl => ?_)
            refine lv_lload_n hx hb dX0_groups_51 rfl (lv_at hl 3 rfl) ?_
            refine lv_lload hx hb dX0_groups_52 (lv_at hl 0 rfl) ?_
            refine lv_ldc2 hx hb hown (hts _ q36) dX0_groups_54 ?_
            refine lv_lxor hx hb dX0_groups_57 ?_
            refine lv_topl (fun v57 e57 => ?_)
            refine lv_land hx hb dX0_groups_58 ?_
            refine lv_topl (fun v58 e58 => ?_)
            refine lv_lstore_n (lv' := [(2, .long v58), (8, .long r46), (6, .long r37), (0, .ref (b 0)), (4, .int (nI ct)), (5, .int (nI k))]) hx hb dX0_groups_59 rfl hl (by decide) rfl (fun ls hl => ?_)
            refine lv_iinc (v := nI (ct + 1)) (lv' := [(4, .int (nI (ct + 1))), (2, .long v58), (8, .long r46), (6, .long r37), (0, .ref (b 0)), (5, .int (nI k))]) hx hb dX0_groups_60 hl (k := 4) rfl (nI_add ct 1) (by decide) rfl (fun ls hl => ?_)
            refine lv_iinc (v := nI (k + 1)) (lv' := [(5, .int (nI (k + 1))), (4, .int (nI (ct + 1))), (2, .long v58), (8, .long r46), (6, .long r37), (0, .ref (b 0))]) hx hb dX0_groups_63 hl (k := 5) rfl (nI_add k 1) (by decide) rfl (fun ls hl => ?_)
            refine lv_goto (tgt := 22) hx hb dX0_groups_66 (by decide) ?_
            exact ih (k + 1) (ct + 1) v58 (by omega) (by omega) (by rw [e58, e57]; exact f6) (by rw [e58, e57, go_hd_s f1 f2 f3 f4 hlf.2.1 f5, ← hct]) _ _ _ hP hS (lv_sub hl [5, 2, 1, 0] rfl)
    exact lp22 50 0 0 r12 (by omega) (by omega) (go_lf_0 hmi) (go_st_all hmi (fun j h => ⟨h.1, h.2.1⟩)).symm _ _ _ hP hS (lv_sub hl [3, 2, 1, 0] rfl)
  · have hq := (go_bz p2).2 c5
    refine lv_iconst (v := (-1)) hx hb dX0_groups_8 (by decide) ?_
    refine go_pri X hS dX0_groups_9 ?_
    exact (go_onp_n hq).symm
set_option maxHeartbeats 4000000 in
set_option maxRecDepth 100000 in
theorem gX0_inAtari  (pa : Int32) (hG : go_GI a bl wh cn ob ow ot bt wt) (hI : go_AI a) : Met l yX0_inAtari (ws_ yX0_inAtari cX0_inAtari 15 (some .int)) ({ frames := 2, cells := 0, slots := 0, locals := 60 } : Room) (go_pP D (go_G b cs bl wh cn ob ow ot bt wt tb tw) (go_Gt cs) [.ref (b 0), .int pa]) (go_pQi (fun r => r = go_aAta (go_B a) pa)) 0 0 (fun _ => False) := by
  refine go_pMet (by decide) (Nat.le_of_ble_eq_true rfl) ?_
  intro p e s m below meth c ls X hK hP hS hl
  have hl : lv_has ls 15 [(0, .ref (b 0)), (1, .int pa)] := hl
  obtain ⟨hx, hb, hml, hr, hlocks, hown, hts⟩ := id X
  have hP : va_P D go_cl (go_G b cs bl wh cn ob ow ot bt wt tb tw) s.heap := hP
  refine lv_aload_n hx hb dX0_inAtari_0 rfl (lv_at hl 0 rfl) ?_
  refine lv_iload_n hx hb dX0_inAtari_1 rfl (lv_at hl 1 rfl) ?_
  refine go_pcI (As := [.int pa]) (rest := []) X (gX0_badPlayer pa) (cwV 1 hts (lw_V q87 q89 qs1 q26 q90) rfl rfl rfl (by decide +kernel) ⟨Nat.le_of_ble_eq_true rfl, Nat.le_of_ble_eq_true rfl⟩) hK hP (va_recv hK hP (ci := 0) (q0 := 0) rfl rfl) rfl rfl hl.1 (Nat.le_of_ble_eq_true rfl) dX0_inAtari_2 ⟨Nat.zero_le _, Nat.zero_le _⟩ hS (fun r2 H1 locs p2 hk hS => ?_)
  have hP := hk _ hP
  clear hk
  generalize H1 = H at hP hS ⊢
  refine lv_if_eq (tgt := 10) hx hb dX0_inAtari_5 (by decide) (fun c5 => ?_) (fun c5 => ?_)
  · obtain ⟨P, hP2, rfl⟩ := (go_bz p2).1 c5
    refine lv_aload_n hx hb dX0_inAtari_10 rfl (lv_at hl 0 rfl) ?_
    refine go_pcL (As := []) (rest := []) X (gX0_empty ) (cwV 0 hts (lw_V q152 q154 qs10 q26 q155) rfl rfl rfl (by decide +kernel) ⟨Nat.le_of_ble_eq_true rfl, Nat.le_of_ble_eq_true rfl⟩) hK hP (va_recv hK hP (ci := 0) (q0 := 0) rfl rfl) rfl rfl hl.1 (Nat.le_of_ble_eq_true rfl) dX0_inAtari_11 ⟨Nat.zero_le _, Nat.zero_le _⟩ hS (fun r11 H1 locs p11 hk hS => ?_)
    have hP := hk _ hP
    clear hk
    generalize H1 = H at hP hS ⊢
    have ho : go_st (go_B a) 2 r11 := by rw [p11]; exact go_empty hG.1 hI.1
    refine lv_lstore_n (lv' := [(2, .long r11), (0, .ref (b 0)), (1, .int (nI P))]) hx hb dX0_inAtari_14 rfl hl (by decide) rfl (fun ls hl => ?_)
    refine lv_aload_n hx hb dX0_inAtari_15 rfl (lv_at hl 1 rfl) ?_
    refine lv_iload_n hx hb dX0_inAtari_16 rfl (lv_at hl 2 rfl) ?_
    refine go_pcL (As := [.int (nI P)]) (rest := []) X (gX0_stones (nI P)) (cwV 1 hts (lw_V q95 q97 qs3 q26 q98) rfl rfl rfl (by decide +kernel) ⟨Nat.le_of_ble_eq_true rfl, Nat.le_of_ble_eq_true rfl⟩) hK hP (va_recv hK hP (ci := 0) (q0 := 0) rfl rfl) rfl rfl hl.1 (Nat.le_of_ble_eq_true rfl) dX0_inAtari_17 ⟨Nat.zero_le _, Nat.zero_le _⟩ hS (fun r17 H1 locs p17 hk hS => ?_)
    have hP := hk _ hP
    clear hk
    generalize H1 = H at hP hS ⊢
    have hmi := go_st_of hG.1 hP2 p17
    refine lv_lstore (lv' := [(4, .long r17), (2, .long r11), (0, .ref (b 0)), (1, .int (nI P))]) hx hb dX0_inAtari_20 hl (by decide) rfl (fun ls hl => ?_)
    refine lv_iconst (v := nI 0) hx hb dX0_inAtari_22 (by decide) ?_
    refine lv_istore (lv' := [(6, .int (nI 0)), (4, .long r17), (2, .long r11), (0, .ref (b 0)), (1, .int (nI P))]) hx hb dX0_inAtari_23 hl (by decide) rfl (fun ls hl => ?_)
    refine lv_iconst (v := nI 0) hx hb dX0_inAtari_25 (by decide) ?_
    refine lv_istore (lv' := [(7, .int (nI 0)), (6, .int (nI 0)), (4, .long r17), (2, .long r11), (0, .ref (b 0)), (1, .int (nI P))]) hx hb dX0_inAtari_26 hl (by decide) rfl (fun ls hl => ?_)
    have lp28 : ∀ (n : Nat) (k ct : Nat) (lf : Int64) , 50 ≤ k + n → k ≤ 49 → go_lf (go_B a) P k lf → ct = go_cnt (fun j => go_at1 (go_B a) P j ∧ ¬ go_m lf j) 49 → ∀ (H : Heap) (locs : List Loc) (ls : Array Slot), va_P D go_cl (go_G b cs bl wh cn ob ow ot bt wt tb tw) H → va_S (fun _ => False) s.heap H locs → lv_has ls 15 [(0, .ref (b 0)), (2, .long r11), (4, .long lf), (6, .int (nI ct)), (7, .int (nI k))] → W p l e ({ frames := 2, cells := 0, slots := 0, locals := 60 } : Room) s m ([.ref (b 0), .int (nI P)] : List Value).toArray below meth c H locs 0 0 (MQ below (go_pQi (fun r => r = go_aAta (go_B a) (nI P))) ([.ref (b 0), .int (nI P)] : List Value).toArray s 0 0 (fun _ => False)) (F0 m 28 ls []) := by
      intro n
      induction n with
      | zero =>
        intro k ct lf  hn hk hlf hct
        exact absurd hn (by omega)
      | succ n ih =>
        intro k ct lf  hn hk hlf hct H locs ls hP hS hl
        refine lv_iload hx hb dX0_inAtari_28 (lv_at hl 4 rfl) ?_
        refine lv_bipush (v := nI 49) hx hb dX0_inAtari_30 (by decide) ?_
        refine lv_icmp_ge (tgt := 121) hx hb dX0_inAtari_32 (by decide) (fun c32 => ?_) (fun c32 => ?_)
        · have c32 : 49 ≤ k := (nI_leI (a := 49) (b := k) (by omega) (by omega)).mp c32
          refine lv_iload hx hb dX0_inAtari_121 (lv_at hl 3 rfl) ?_
          refine go_pri X hS dX0_inAtari_123 ?_
          rw [hct, go_aAta_y hP2, go_left0 hlf (Or.inl c32)]
        · have c32 : ¬ 49 ≤ k := fun h => c32 ((nI_leI (a := 49) (b := k) (by omega) (by omega)).mpr h)
          refine lv_lload hx hb dX0_inAtari_35 (lv_at hl 2 rfl) ?_
          refine lv_lconst (v := 0) hx hb dX0_inAtari_37 (by decide) ?_
          refine W.lcmp hx hb dX0_inAtari_38 ?_
          refine lv_if_eq (tgt := 121) hx hb dX0_inAtari_39 (by decide) (fun c39 => ?_) (fun c39 => ?_)
          · have c39 : lf = 0 := go_cmp0.mp c39
            refine lv_iload hx hb dX0_inAtari_121 (lv_at hl 3 rfl) ?_
            refine go_pri X hS dX0_inAtari_123 ?_
            rw [hct, go_aAta_y hP2, go_left0 hlf (Or.inr c39)]
          · have c39 : ¬ lf = 0 := fun h => c39 (go_cmp0.mpr h)
            have hct49 := go_cnt_le (fun j => go_at1 (go_B a) P j ∧ ¬ go_m lf j) 49
            refine lv_aload_n hx hb dX0_inAtari_42 rfl (lv_at hl 0 rfl) ?_
            refine lv_lload hx hb dX0_inAtari_43 (lv_at hl 2 rfl) ?_
            refine go_pcL (As := [.long lf]) (rest := []) X (gX0_lowest lf) (cwV 1 hts (lw_V q168 q170 qs11 q26 q171) rfl rfl rfl (by decide +kernel) ⟨Nat.le_of_ble_eq_true rfl, Nat.le_of_ble_eq_true rfl⟩) hK hP (va_recv hK hP (ci := 0) (q0 := 0) rfl rfl) rfl rfl hl.1 (Nat.le_of_ble_eq_true rfl) dX0_inAtari_45 ⟨Nat.zero_le _, Nat.zero_le _⟩ hS (fun r45 H1 locs p45 hk hS => ?_)
            have hP := hk _ hP
            clear hk
            generalize H1 = H at hP hS ⊢
            refine lv_lstore (lv' := [(8, .long r45), (0, .ref (b 0)), (2, .long r11), (4, .long lf), (6, .int (nI ct)), (7, .int (nI k))]) hx hb dX0_inAtari_48 hl (by decide) rfl (fun ls hl => ?_)
            refine lv_aload_n hx hb dX0_inAtari_50 rfl (lv_at hl 1 rfl) ?_
            refine lv_lload hx hb dX0_inAtari_51 (lv_at hl 0 rfl) ?_
            refine lv_lload hx hb dX0_inAtari_53 (lv_at hl 3 rfl) ?_
            refine go_pcL (As := [.long r45, .long lf]) (rest := []) X (gX0_grown r45 lf (fun j hj => (hlf.1 j hj).1)) (cwV 2 hts (lw_V q107 q109 qs6 q26 q110) rfl rfl rfl (by decide +kernel) ⟨Nat.le_of_ble_eq_true rfl, Nat.le_of_ble_eq_true rfl⟩) hK hP (va_recv hK hP (ci := 0) (q0 := 0) rfl rfl) rfl rfl hl.1 (Nat.le_of_ble_eq_true rfl) dX0_inAtari_55 ⟨Nat.zero_le _, Nat.zero_le _⟩ hS (fun r55 H1 locs p55 hk hS => ?_)
            have hP := hk _ hP
            clear hk
            generalize H1 = H at hP hS ⊢
            obtain ⟨F, f1, f2, f3, f4, f5, f6⟩ := go_lf_s hlf c39 p45 p55
            have hs1 := go_at1_s f1 f2 f3 hlf.2.1 f5
            have hg49 := go_cnt_le (go_m r55) 49
            refine lv_lstore (lv' := [(10, .long r55), (8, .long r45), (0, .ref (b 0)), (2, .long r11), (4, .long lf), (6, .int (nI ct)), (7, .int (nI k))]) hx hb dX0_inAtari_58 hl (by decide) rfl (fun ls hl => ?_)
            refine lv_aload_n hx hb dX0_inAtari_60 rfl (lv_at hl 2 rfl) ?_
            refine lv_lload hx hb dX0_inAtari_61 (lv_at hl 0 rfl) ?_
            refine go_pcL (As := [.long r55]) (rest := []) X (gX0_around r55) (cwV 1 hts (lw_V q103 q105 qs5 q26 q106) rfl rfl rfl (by decide +kernel) ⟨Nat.le_of_ble_eq_true rfl, Nat.le_of_ble_eq_true rfl⟩) hK hP (va_recv hK hP (ci := 0) (q0 := 0) rfl rfl) rfl rfl hl.1 (Nat.le_of_ble_eq_true rfl) dX0_inAtari_63 ⟨Nat.zero_le _, Nat.zero_le _⟩ hS (fun r63 H1 locs p63 hk hS => ?_)
            have hP := hk _ hP
            clear hk
            generalize H1 = H at hP hS ⊢
            refine lv_lload_n hx hb dX0_inAtari_66 rfl (lv_at hl 3 rfl) ?_
            refine lv_land hx hb dX0_inAtari_67 ?_
            refine lv_topl (fun v67 e67 => ?_)
            refine lv_lstore (lv' := [(12, .long v67), (10, .long r55), (8, .long r45), (0, .ref (b 0)), (2, .long r11), (4, .long lf), (6, .int (nI ct)), (7, .int (nI k))]) hx hb dX0_inAtari_68 hl (by decide) rfl (fun ls hl => ?_)
            have hfr : ∀ j, go_m v67 j ↔ go_lb (go_B a) (go_gp (go_B a) F) j := fun j => by rw [e67, p63]; exact go_libs ho f5 j
            have hfi : go_in v67 := fun j hj => ((hfr j).mp hj).1
            have hfn : go_cnt (go_m v67) 49 = go_nl (go_B a) F := go_cnt_c (fun j _ => hfr j)
            refine lv_lload hx hb dX0_inAtari_70 (lv_at hl 0 rfl) ?_
            refine lv_lconst (v := 0) hx hb dX0_inAtari_72 (by decide) ?_
            refine W.lcmp hx hb dX0_inAtari_73 ?_
            refine lv_if_eq (tgt := 104) hx hb dX0_inAtari_74 (by decide) (fun c74 => ?_) (fun c74 => ?_)
            · have c74 : v67 = 0 := go_cmp0.mp c74
              have hone : ¬ go_nl (go_B a) F = 1 := by rw [(go_nlz hfr).mp c74]; decide
              refine lv_lload hx hb dX0_inAtari_104 (lv_at hl 5 rfl) ?_
              refine lv_lload hx hb dX0_inAtari_106 (lv_at hl 1 rfl) ?_
              refine lv_ldc2 hx hb hown (hts _ q36) dX0_inAtari_108 ?_
              refine lv_lxor hx hb dX0_inAtari_111 ?_
              refine lv_topl (fun v111 e111 => ?_)
              refine lv_land hx hb dX0_inAtari_112 ?_
              refine lv_topl (fun v112 e112 => ?_)
              refine lv_lstore (lv' := [(4, .long v112), (12, .long v67), (10, .long r55), (8, .long r45), (0, .ref (b 0)), (2, .long r11), (6, .int (nI ct)), (7, .int (nI k))]) hx hb dX0_inAtari_113 hl (by decide) rfl (fun ls hl => ?_)
              refine lv_iinc (v := nI (k + 1)) (lv' := [(7, .int (nI (k + 1))), (4, .long v112), (12, .long v67), (10, .long r55), (8, .long r45), (0, .ref (b 0)), (2, .long r11), (6, .int (nI ct))]) hx hb dX0_inAtari_115 hl (k := 7) rfl (nI_add k 1) (by decide) rfl (fun ls hl => ?_)
              refine lv_goto (tgt := 28) hx hb dX0_inAtari_118 (by decide) ?_
              exact ih (k + 1) ct v112 (by omega) (by omega) (by rw [e112, e111]; exact f6) (by rw [e112, e111, hs1.2 hone, ← hct]) _ _ _ hP hS (lv_sub hl [5, 6, 1, 7, 0] rfl)
            · have c74 : ¬ v67 = 0 := fun h => c74 (go_cmp0.mpr h)
              refine lv_lload hx hb dX0_inAtari_77 (lv_at hl 0 rfl) ?_
              refine lv_lload hx hb dX0_inAtari_79 (lv_at hl 0 rfl) ?_
              refine lv_lconst (v := 1) hx hb dX0_inAtari_81 (by decide) ?_
              refine lv_lsub hx hb dX0_inAtari_82 ?_
              refine lv_topl (fun v82 e82 => ?_)
              refine lv_land hx hb dX0_inAtari_83 ?_
              refine lv_topl (fun v83 e83 => ?_)
              refine lv_lconst (v := 0) hx hb dX0_inAtari_84 (by decide) ?_
              refine W.lcmp hx hb dX0_inAtari_85 ?_
              refine lv_if_ne (tgt := 104) hx hb dX0_inAtari_86 (by decide) (fun c86 => ?_) (fun c86 => ?_)
              · have c86 : ¬ v83 = 0 := fun h => c86 (go_cmp0.mpr h)
                have hone : ¬ go_nl (go_B a) F = 1 := fun h => c86 (by rw [e83, e82]; exact (go_one hfi c74).mpr (hfn.trans h))
                refine lv_lload hx hb dX0_inAtari_104 (lv_at hl 5 rfl) ?_
                refine lv_lload hx hb dX0_inAtari_106 (lv_at hl 1 rfl) ?_
                refine lv_ldc2 hx hb hown (hts _ q36) dX0_inAtari_108 ?_
                refine lv_lxor hx hb dX0_inAtari_111 ?_
                refine lv_topl (fun v111 e111 => ?_)
                refine lv_land hx hb dX0_inAtari_112 ?_
                refine lv_topl (fun v112 e112 => ?_)
                refine lv_lstore (lv' := [(4, .long v112), (12, .long v67), (10, .long r55), (8, .long r45), (0, .ref (b 0)), (2, .long r11), (6, .int (nI ct)), (7, .int (nI k))]) hx hb dX0_inAtari_113 hl (by decide) rfl (fun ls hl => ?_)
                refine lv_iinc (v := nI (k + 1)) (lv' := [(7, .int (nI (k + 1))), (4, .long v112), (12, .long v67), (10, .long r55), (8, .long r45), (0, .ref (b 0)), (2, .long r11), (6, .int (nI ct))]) hx hb dX0_inAtari_115 hl (k := 7) rfl (nI_add k 1) (by decide) rfl (fun ls hl => ?_)
                refine lv_goto (tgt := 28) hx hb dX0_inAtari_118 (by decide) ?_
                exact ih (k + 1) ct v112 (by omega) (by omega) (by rw [e112, e111]; exact f6) (by rw [e112, e111, hs1.2 hone, ← hct]) _ _ _ hP hS (lv_sub hl [5, 6, 1, 7, 0] rfl)
              · have c86 : v83 = 0 := go_cmp0.mp c86
                have hone : go_nl (go_B a) F = 1 := hfn.symm.trans ((go_one hfi c74).mp (by rw [← e82, ← e83]; exact c86))
                refine lv_aload_n hx hb dX0_inAtari_89 rfl (lv_at hl 3 rfl) ?_
                refine lv_lload hx hb dX0_inAtari_90 (lv_at hl 1 rfl) ?_
                refine go_pcI (As := [.long r55]) (rest := []) X (gX0_sizeOf r55) (cwV 1 hts (lw_V q111 q113 qs7 q26 q114) rfl rfl rfl (by decide +kernel) ⟨Nat.le_of_ble_eq_true rfl, Nat.le_of_ble_eq_true rfl⟩) hK hP (va_recv hK hP (ci := 0) (q0 := 0) rfl rfl) rfl rfl hl.1 (Nat.le_of_ble_eq_true rfl) dX0_inAtari_92 ⟨Nat.zero_le _, Nat.zero_le _⟩ hS (fun r92 H1 locs p92 hk hS => ?_)
                have hP := hk _ hP
                clear hk
                generalize H1 = H at hP hS ⊢
                obtain rfl := p92
                refine lv_istore (lv' := [(14, .int (nI (go_cnt (go_m r55) 49))), (12, .long v67), (10, .long r55), (8, .long r45), (0, .ref (b 0)), (2, .long r11), (4, .long lf), (6, .int (nI ct)), (7, .int (nI k))]) hx hb dX0_inAtari_95 hl (by decide) rfl (fun ls hl => ?_)
                refine lv_iload hx hb dX0_inAtari_97 (lv_at hl 7 rfl) ?_
                refine lv_iload hx hb dX0_inAtari_99 (lv_at hl 0 rfl) ?_
                refine lv_iadd hx hb dX0_inAtari_101 ?_
                refine lv_topi (fun v101 e101 => ?_)
                obtain rfl : v101 = nI (ct + go_cnt (go_m r55) 49) := e101.trans (nI_add _ _)
                refine lv_istore (lv' := [(6, .int (nI (ct + go_cnt (go_m r55) 49))), (14, .int (nI (go_cnt (go_m r55) 49))), (12, .long v67), (10, .long r55), (8, .long r45), (0, .ref (b 0)), (2, .long r11), (4, .long lf), (7, .int (nI k))]) hx hb dX0_inAtari_102 hl (by decide) rfl (fun ls hl => ?_)
                refine lv_lload hx hb dX0_inAtari_104 (lv_at hl 7 rfl) ?_
                refine lv_lload hx hb dX0_inAtari_106 (lv_at hl 3 rfl) ?_
                refine lv_ldc2 hx hb hown (hts _ q36) dX0_inAtari_108 ?_
                refine lv_lxor hx hb dX0_inAtari_111 ?_
                refine lv_topl (fun v111 e111 => ?_)
                refine lv_land hx hb dX0_inAtari_112 ?_
                refine lv_topl (fun v112 e112 => ?_)
                refine lv_lstore (lv' := [(4, .long v112), (6, .int (nI (ct + go_cnt (go_m r55) 49))), (14, .int (nI (go_cnt (go_m r55) 49))), (12, .long v67), (10, .long r55), (8, .long r45), (0, .ref (b 0)), (2, .long r11), (7, .int (nI k))]) hx hb dX0_inAtari_113 hl (by decide) rfl (fun ls hl => ?_)
                refine lv_iinc (v := nI (k + 1)) (lv' := [(7, .int (nI (k + 1))), (4, .long v112), (6, .int (nI (ct + go_cnt (go_m r55) 49))), (14, .int (nI (go_cnt (go_m r55) 49))), (12, .long v67), (10, .long r55), (8, .long r45), (0, .ref (b 0)), (2, .long r11)]) hx hb dX0_inAtari_115 hl (k := 8) rfl (nI_add k 1) (by decide) rfl (fun ls hl => ?_)
                refine lv_goto (tgt := 28) hx hb dX0_inAtari_118 (by decide) ?_
                exact ih (k + 1) (ct + go_cnt (go_m r55) 49) v112 (by omega) (by omega) (by rw [e112, e111]; exact f6) (by rw [e112, e111, hs1.1 hone, ← hct]) _ _ _ hP hS (lv_sub hl [7, 8, 1, 2, 0] rfl)
    exact lp28 50 0 0 r17 (by omega) (by omega) (go_lf_0 hmi) (go_st_all hmi (fun j h => ⟨h.1, h.2.1⟩)).symm _ _ _ hP hS (lv_sub hl [4, 3, 2, 1, 0] rfl)
  · have hq := (go_bz p2).2 c5
    refine lv_iconst (v := (-1)) hx hb dX0_inAtari_8 (by decide) ?_
    refine go_pri X hS dX0_inAtari_9 ?_
    exact (go_onp_n hq).symm
end GoG
end
section
/-! GoBoard: methods that write: printed by gen/g3.py -/
theorem go_lt_le {x : Int32} (h : x < 0) (h2 : 0 ≤ x) : False := by
  rw [Int32.lt_iff_toInt_lt] at h
  rw [Int32.le_iff_toInt_le] at h2
  omega
theorem go_nlt_le {x : Int32} (h : ¬ x < 0) : 0 ≤ x := by
  rw [Int32.lt_iff_toInt_lt] at h
  rw [Int32.le_iff_toInt_le]
  omega
section GoG
variable {l : Launch} {D : va_G} {b : Nat → Nat} {cs : Nat → ClassId} {bl wh : Int64} {cn : Int32} {ob ow : Nat → Int64} {ot : Nat → Int32} {bt wt : Int32} {tb tw : Int64} {a : go_A}
set_option maxHeartbeats 4000000 in
set_option maxRecDepth 100000 in
theorem gX0_attempt  (pa : Int32) (qa : Int32) (hG : go_GI a bl wh cn ob ow ot bt wt) (hI : go_AI a) : ∀ sz : Nat, Met l yX0_attempt (ws_ yX0_attempt cX0_attempt 15 (some .int)) ({ frames := 3, cells := 0, slots := 0, locals := 88 } : Room) (go_mP D (go_G b cs bl wh cn ob ow ot bt wt tb tw) (go_Gt cs) sz [.ref (b 0), .int pa, .int qa]) (go_mQi (fun (r : Int32) (u : Int64 × Int64) => match u with | (tb', tw') => r = go_att (go_B a) (go_n a) (go_HB a) pa qa ∧ (0 ≤ r → go_bd (go_tb (go_B a) pa.toNatClampNeg qa.toNatClampNeg) tb' tw')) D (go_Gt cs) (fun u : Int64 × Int64 => match u with | (tb', tw') => go_G b cs bl wh cn ob ow ot bt wt tb' tw') (va_A (go_G b cs bl wh cn ob ow ot bt wt tb tw) sz)) 0 0 (va_A (go_G b cs bl wh cn ob ow ot bt wt tb tw) sz) := by
  refine go_mMet (Qf := fun A => go_mQi (fun (r : Int32) (u : Int64 × Int64) => match u with | (tb', tw') => r = go_att (go_B a) (go_n a) (go_HB a) pa qa ∧ (0 ≤ r → go_bd (go_tb (go_B a) pa.toNatClampNeg qa.toNatClampNeg) tb' tw')) D (go_Gt cs) (fun u : Int64 × Int64 => match u with | (tb', tw') => go_G b cs bl wh cn ob ow ot bt wt tb' tw') A) (by decide) (Nat.le_of_ble_eq_true rfl) ?_
  intro p e s m below meth c ls A X hK hP hD hA hS hl
  have hl : lv_has ls 15 [(0, .ref (b 0)), (1, .int pa), (2, .int qa)] := hl
  obtain ⟨hx, hb, hml, hr, hlocks, hown, hts⟩ := id X
  have hP : va_P D go_cl (go_G b cs bl wh cn ob ow ot bt wt tb tw) s.heap := hP
  have hcn := hG.2.1
  have hn40 := hI.2.1
  refine lv_aload_n hx hb dX0_attempt_0 rfl (lv_at hl 0 rfl) ?_
  refine lv_iload_n hx hb dX0_attempt_1 rfl (lv_at hl 1 rfl) ?_
  refine go_pcI (As := [.int pa]) (rest := []) X (gX0_badPlayer pa) (cwV 1 hts (lw_V q87 q89 qs1 q26 q90) rfl rfl rfl (by decide +kernel) ⟨Nat.le_of_ble_eq_true rfl, Nat.le_of_ble_eq_true rfl⟩) hK hP (va_recv hK hP (ci := 0) (q0 := 0) rfl rfl) rfl rfl hl.1 (Nat.le_of_ble_eq_true rfl) dX0_attempt_2 ⟨Nat.zero_le _, Nat.zero_le _⟩ hS (fun r2 H1 locs p2 hk hS => ?_)
  have hP := hk _ hP
  clear hk
  generalize H1 = H at hP hS ⊢
  refine lv_if_ne (tgt := 16) hx hb dX0_attempt_5 (by decide) (fun c5 => ?_) (fun c5 => ?_)
  · refine lv_iconst (v := (-1)) hx hb dX0_attempt_16 (by decide) ?_
    refine go_mri X hK hS ((tb, tw)) hP hD dX0_attempt_17 ?_
    exact ⟨(go_att_bad (fun h => (go_bz p2).2 c5 h.1)).symm, fun h => absurd h (by decide)⟩
  · refine lv_aload_n hx hb dX0_attempt_8 rfl (lv_at hl 0 rfl) ?_
    refine lv_iload_n hx hb dX0_attempt_9 rfl (lv_at hl 2 rfl) ?_
    refine go_pcI (As := [.int qa]) (rest := []) X (gX0_badPoint qa) (cwV 1 hts (lw_V q91 q93 qs2 q26 q94) rfl rfl rfl (by decide +kernel) ⟨Nat.le_of_ble_eq_true rfl, Nat.le_of_ble_eq_true rfl⟩) hK hP (va_recv hK hP (ci := 0) (q0 := 0) rfl rfl) rfl rfl hl.1 (Nat.le_of_ble_eq_true rfl) dX0_attempt_10 ⟨Nat.zero_le _, Nat.zero_le _⟩ hS (fun r10 H1 locs p10 hk hS => ?_)
    have hP := hk _ hP
    clear hk
    generalize H1 = H at hP hS ⊢
    refine lv_if_eq (tgt := 18) hx hb dX0_attempt_13 (by decide) (fun c13 => ?_) (fun c13 => ?_)
    · obtain ⟨P, hP2, rfl⟩ := (go_bz p2).1 c5
      obtain ⟨K, hK9, rfl⟩ := (go_bz p10).1 c13
      refine lv_lconst (v := 1) hx hb dX0_attempt_18 (by decide) ?_
      refine lv_iload_n hx hb dX0_attempt_19 rfl (lv_at hl 2 rfl) ?_
      refine lv_lshl hx hb dX0_attempt_20 rfl ?_
      refine lv_topl (fun v20 e20 => ?_)
      refine lv_lstore_n (lv' := [(3, .long v20), (0, .ref (b 0)), (1, .int (nI P)), (2, .int (nI K))]) hx hb dX0_attempt_21 rfl hl (by decide) rfl (fun ls hl => ?_)
      refine lv_aload_n hx hb dX0_attempt_22 rfl (lv_at hl 1 rfl) ?_
      refine va_get (D := D) (ci := 0) (v := .long bl) (C := RX0) (T := TX0) (N := 13) hx hb hts in_X0 hown hK hP 0 rfl rfl 3 (by decide) (hts _ q40) (fun _ h9 => h9) rfl dX0_attempt_23 ?_
      refine lv_aload_n hx hb dX0_attempt_26 rfl (lv_at hl 1 rfl) ?_
      refine va_get (D := D) (ci := 0) (v := .long wh) (C := RX0) (T := TX0) (N := 13) hx hb hts in_X0 hown hK hP 0 rfl rfl 4 (by decide) (hts _ q41) (fun _ h9 => h9) rfl dX0_attempt_27 ?_
      refine lv_lor hx hb dX0_attempt_30 ?_
      refine lv_topl (fun v30 e30 => ?_)
      refine lv_lload_n hx hb dX0_attempt_31 rfl (lv_at hl 0 rfl) ?_
      refine lv_land hx hb dX0_attempt_32 ?_
      refine lv_topl (fun v32 e32 => ?_)
      refine lv_lconst (v := 0) hx hb dX0_attempt_33 (by decide) ?_
      refine W.lcmp hx hb dX0_attempt_34 ?_
      refine lv_if_eq (tgt := 41) hx hb dX0_attempt_35 (by decide) (fun c35 => ?_) (fun c35 => ?_)
      · have c35 : v32 = 0 := go_cmp0.mp c35
        have hB9 : go_B a K = 2 := (go_stone hG.1 hI.1 hK9).mp (by rw [← e20, ← e30, ← e32]; exact c35)
        refine lv_aload_n hx hb dX0_attempt_41 rfl (lv_at hl 1 rfl) ?_
        refine lv_iload_n hx hb dX0_attempt_42 rfl (lv_at hl 2 rfl) ?_
        refine go_pcL (As := [.int (nI P)]) (rest := []) X (gX0_stones (nI P)) (cwV 1 hts (lw_V q95 q97 qs3 q26 q98) rfl rfl rfl (by decide +kernel) ⟨Nat.le_of_ble_eq_true rfl, Nat.le_of_ble_eq_true rfl⟩) hK hP (va_recv hK hP (ci := 0) (q0 := 0) rfl rfl) rfl rfl hl.1 (Nat.le_of_ble_eq_true rfl) dX0_attempt_43 ⟨Nat.zero_le _, Nat.zero_le _⟩ hS (fun r43 H1 locs p43 hk hS => ?_)
        have hP := hk _ hP
        clear hk
        generalize H1 = H at hP hS ⊢
        have hst := go_st_of hG.1 hP2 p43
        refine lv_lload_n hx hb dX0_attempt_46 rfl (lv_at hl 0 rfl) ?_
        refine lv_lor hx hb dX0_attempt_47 ?_
        refine lv_topl (fun v47 e47 => ?_)
        have hmi : go_st (go_put (go_B a) K P) P v47 := by rw [e47, e20]; exact go_mine hP2 hK9 hst
        refine lv_lstore (lv' := [(5, .long v47), (3, .long v20), (0, .ref (b 0)), (1, .int (nI P)), (2, .int (nI K))]) hx hb dX0_attempt_48 hl (by decide) rfl (fun ls hl => ?_)
        refine lv_aload_n hx hb dX0_attempt_50 rfl (lv_at hl 2 rfl) ?_
        refine lv_iconst (v := nI 1) hx hb dX0_attempt_51 (by decide) ?_
        refine lv_iload_n hx hb dX0_attempt_52 rfl (lv_at hl 3 rfl) ?_
        refine lv_isub hx hb dX0_attempt_53 ?_
        refine lv_topi (fun v53 e53 => ?_)
        obtain rfl : v53 = nI (1 - P) := e53.trans (pk_sub (by omega))
        refine go_pcL (As := [.int (nI (1 - P))]) (rest := []) X (gX0_stones (nI (1 - P))) (cwV 1 hts (lw_V q95 q97 qs3 q26 q98) rfl rfl rfl (by decide +kernel) ⟨Nat.le_of_ble_eq_true rfl, Nat.le_of_ble_eq_true rfl⟩) hK hP (va_recv hK hP (ci := 0) (q0 := 0) rfl rfl) rfl rfl hl.1 (Nat.le_of_ble_eq_true rfl) dX0_attempt_54 ⟨Nat.zero_le _, Nat.zero_le _⟩ hS (fun r54 H1 locs p54 hk hS => ?_)
        have hP := hk _ hP
        clear hk
        generalize H1 = H at hP hS ⊢
        have hth := go_theirs (K := K) hP2 hB9 (go_st_of hG.1 (show 1 - P < 2 by omega) p54)
        refine lv_lstore (lv' := [(7, .long r54), (5, .long v47), (3, .long v20), (0, .ref (b 0)), (1, .int (nI P)), (2, .int (nI K))]) hx hb dX0_attempt_57 hl (by decide) rfl (fun ls hl => ?_)
        refine lv_aload_n hx hb dX0_attempt_59 rfl (lv_at hl 3 rfl) ?_
        refine va_get (D := D) (ci := 0) (v := .long go_ALL) (C := RX0) (T := TX0) (N := 13) hx hb hts in_X0 hown hK hP 0 rfl rfl 0 (by decide) (hts _ q37) (fun _ h9 => h9) rfl dX0_attempt_60 ?_
        refine lv_lload hx hb dX0_attempt_63 (lv_at hl 1 rfl) ?_
        refine lv_lload hx hb dX0_attempt_65 (lv_at hl 0 rfl) ?_
        refine lv_lor hx hb dX0_attempt_67 ?_
        refine lv_topl (fun v67 e67 => ?_)
        refine lv_ldc2 hx hb hown (hts _ q36) dX0_attempt_68 ?_
        refine lv_lxor hx hb dX0_attempt_71 ?_
        refine lv_topl (fun v71 e71 => ?_)
        refine lv_land hx hb dX0_attempt_72 ?_
        refine lv_topl (fun v72 e72 => ?_)
        have ho : go_st (go_put (go_B a) K P) 2 v72 := by rw [e72, e71, e67]; exact go_open (go_put_b2 hI.1 hP2) hP2 hmi hth
        refine lv_lstore (lv' := [(9, .long v72), (7, .long r54), (5, .long v47), (3, .long v20), (0, .ref (b 0)), (1, .int (nI P)), (2, .int (nI K))]) hx hb dX0_attempt_73 hl (by decide) rfl (fun ls hl => ?_)
        refine lv_aload_n hx hb dX0_attempt_75 rfl (lv_at hl 4 rfl) ?_
        refine lv_lload hx hb dX0_attempt_76 (lv_at hl 1 rfl) ?_
        refine lv_lload hx hb dX0_attempt_78 (lv_at hl 0 rfl) ?_
        refine go_pcL (As := [.long r54, .long v72]) (rest := []) X (gX0_dead r54 v72 (go_st_in hth) (go_st_in ho)) (cwV 2 hts (lw_V q99 q101 qs4 q26 q102) rfl rfl rfl (by decide +kernel) ⟨Nat.le_of_ble_eq_true rfl, Nat.le_of_ble_eq_true rfl⟩) hK hP (va_recv hK hP (ci := 0) (q0 := 0) rfl rfl) rfl rfl hl.1 (Nat.le_of_ble_eq_true rfl) dX0_attempt_80 ⟨Nat.zero_le _, Nat.zero_le _⟩ hS (fun r80 H1 locs p80 hk hS => ?_)
        have hP := hk _ hP
        clear hk
        generalize H1 = H at hP hS ⊢
        have hca := go_caught hth ho p80
        refine lv_lstore (lv' := [(11, .long r80), (9, .long v72), (7, .long r54), (5, .long v47), (3, .long v20), (0, .ref (b 0)), (1, .int (nI P)), (2, .int (nI K))]) hx hb dX0_attempt_83 hl (by decide) rfl (fun ls hl => ?_)
        refine lv_lload hx hb dX0_attempt_85 (lv_at hl 2 rfl) ?_
        refine lv_lload hx hb dX0_attempt_87 (lv_at hl 0 rfl) ?_
        refine lv_ldc2 hx hb hown (hts _ q36) dX0_attempt_89 ?_
        refine lv_lxor hx hb dX0_attempt_92 ?_
        refine lv_topl (fun v92 e92 => ?_)
        refine lv_land hx hb dX0_attempt_93 ?_
        refine lv_topl (fun v93 e93 => ?_)
        have hth2 : go_st (go_tb (go_B a) P K) (1 - P) v93 := by rw [e93, e92]; exact go_theirs2 hP2 hth hca
        refine lv_lstore (lv' := [(7, .long v93), (11, .long r80), (9, .long v72), (5, .long v47), (3, .long v20), (0, .ref (b 0)), (1, .int (nI P)), (2, .int (nI K))]) hx hb dX0_attempt_94 hl (by decide) rfl (fun ls hl => ?_)
        refine lv_lload hx hb dX0_attempt_96 (lv_at hl 2 rfl) ?_
        refine lv_lload hx hb dX0_attempt_98 (lv_at hl 1 rfl) ?_
        refine lv_lor hx hb dX0_attempt_100 ?_
        refine lv_topl (fun v100 e100 => ?_)
        have ho2 : go_st (go_tb (go_B a) P K) 2 v100 := by rw [e100]; exact go_open2 ho hca
        have hmi2 : go_st (go_tb (go_B a) P K) P v47 := go_mine2 hP2 hmi
        refine lv_lstore (lv' := [(9, .long v100), (7, .long v93), (11, .long r80), (5, .long v47), (3, .long v20), (0, .ref (b 0)), (1, .int (nI P)), (2, .int (nI K))]) hx hb dX0_attempt_101 hl (by decide) rfl (fun ls hl => ?_)
        refine lv_aload_n hx hb dX0_attempt_103 rfl (lv_at hl 5 rfl) ?_
        refine lv_lload_n hx hb dX0_attempt_104 rfl (lv_at hl 4 rfl) ?_
        refine lv_lload hx hb dX0_attempt_105 (lv_at hl 3 rfl) ?_
        refine go_pcL (As := [.long v20, .long v47]) (rest := []) X (gX0_grown v20 v47 (go_st_in hmi)) (cwV 2 hts (lw_V q107 q109 qs6 q26 q110) rfl rfl rfl (by decide +kernel) ⟨Nat.le_of_ble_eq_true rfl, Nat.le_of_ble_eq_true rfl⟩) hK hP (va_recv hK hP (ci := 0) (q0 := 0) rfl rfl) rfl rfl hl.1 (Nat.le_of_ble_eq_true rfl) dX0_attempt_107 ⟨Nat.zero_le _, Nat.zero_le _⟩ hS (fun r107 H1 locs p107 hk hS => ?_)
        have hP := hk _ hP
        clear hk
        generalize H1 = H at hP hS ⊢
        have hgr : ∀ j, go_m r107 j ↔ go_gp (go_tb (go_B a) P K) K j := fun j => (p107 j).trans (go_rc_c (fun x9 => by rw [hmi2 x9, go_tb_K hP2]) (fun x9 => by rw [e20]; exact go_m_b (by omega) x9) j)
        refine lv_lstore (lv' := [(13, .long r107), (9, .long v100), (7, .long v93), (11, .long r80), (5, .long v47), (3, .long v20), (0, .ref (b 0)), (1, .int (nI P)), (2, .int (nI K))]) hx hb dX0_attempt_110 hl (by decide) rfl (fun ls hl => ?_)
        refine lv_aload_n hx hb dX0_attempt_112 rfl (lv_at hl 6 rfl) ?_
        refine lv_lload hx hb dX0_attempt_113 (lv_at hl 0 rfl) ?_
        refine go_pcL (As := [.long r107]) (rest := []) X (gX0_around r107) (cwV 1 hts (lw_V q103 q105 qs5 q26 q106) rfl rfl rfl (by decide +kernel) ⟨Nat.le_of_ble_eq_true rfl, Nat.le_of_ble_eq_true rfl⟩) hK hP (va_recv hK hP (ci := 0) (q0 := 0) rfl rfl) rfl rfl hl.1 (Nat.le_of_ble_eq_true rfl) dX0_attempt_115 ⟨Nat.zero_le _, Nat.zero_le _⟩ hS (fun r115 H1 locs p115 hk hS => ?_)
        have hP := hk _ hP
        clear hk
        generalize H1 = H at hP hS ⊢
        refine lv_lload hx hb dX0_attempt_118 (lv_at hl 1 rfl) ?_
        refine lv_land hx hb dX0_attempt_120 ?_
        refine lv_topl (fun v120 e120 => ?_)
        have hnl : v120 = 0 ↔ go_nl (go_tb (go_B a) P K) K = 0 := go_nlz (fun j => by rw [e120, p115]; exact go_libs ho2 hgr j)
        refine lv_lconst (v := 0) hx hb dX0_attempt_121 (by decide) ?_
        refine W.lcmp hx hb dX0_attempt_122 ?_
        refine lv_if_ne (tgt := 129) hx hb dX0_attempt_123 (by decide) (fun c123 => ?_) (fun c123 => ?_)
        · have c123 : ¬ v120 = 0 := fun h => c123 (go_cmp0.mpr h)
          have hnl2 : ¬ go_nl (go_tb (go_B a) P K) K = 0 := fun h => c123 (hnl.mpr h)
          refine lv_aload_n hx hb dX0_attempt_129 rfl (lv_at hl 6 rfl) ?_
          refine lv_iload_n hx hb dX0_attempt_130 rfl (lv_at hl 7 rfl) ?_
          refine lv_if_ne (tgt := 139) hx hb dX0_attempt_131 (by decide) (fun c131 => ?_) (fun c131 => ?_)
          · have c131 : ¬ P = 0 := fun h => c131 ((nI_eq (a := P) (b := 0) (by omega) (by omega)).mpr h)
            refine lv_lload hx hb dX0_attempt_139 (lv_at hl 2 rfl) ?_
            refine va_put (D := D) (ci := 0) (v := .long v93) (ty := .long) (C := RX0) (T := TX0) (N := 13) hx hb hts in_X0 tyX0 tyX0_ok nmX0 hown hK hP hD hS 0 rfl rfl 11 (by decide) (hts _ q48) (fun _ h9 => h9) rfl (by decide +kernel) rfl rfl (Nat.le_of_ble_eq_true rfl) dX0_attempt_141 (fun H locs hP hD hS => ?_)
            have hP : va_P D go_cl (go_G b cs bl wh cn ob ow ot bt wt v93 tw) H := hP
            have hD : va_D A (go_G b cs bl wh cn ob ow ot bt wt v93 tw) := hD
            refine lv_aload_n hx hb dX0_attempt_144 rfl (lv_at hl 6 rfl) ?_
            refine lv_iload_n hx hb dX0_attempt_145 rfl (lv_at hl 7 rfl) ?_
            refine lv_if_ne (tgt := 154) hx hb dX0_attempt_146 (by decide) (fun c146 => ?_) (fun c146 => ?_)
            · have c146 : ¬ P = 0 := fun h => c146 ((nI_eq (a := P) (b := 0) (by omega) (by omega)).mpr h)
              refine lv_lload hx hb dX0_attempt_154 (lv_at hl 4 rfl) ?_
              refine va_put (D := D) (ci := 0) (v := .long v47) (ty := .long) (C := RX0) (T := TX0) (N := 13) hx hb hts in_X0 tyX0 tyX0_ok nmX0 hown hK hP hD hS 0 rfl rfl 12 (by decide) (hts _ q49) (fun _ h9 => h9) rfl (by decide +kernel) rfl rfl (Nat.le_of_ble_eq_true rfl) dX0_attempt_156 (fun H locs hP hD hS => ?_)
              have hP : va_P D go_cl (go_G b cs bl wh cn ob ow ot bt wt v93 v47) H := hP
              have hD : va_D A (go_G b cs bl wh cn ob ow ot bt wt v93 v47) := hD
              have hbd : go_bd (go_tb (go_B a) P K) v93 v47 := by
                obtain rfl : P = 1 := by omega
                exact ⟨hth2, hmi2⟩
              refine lv_aload_n hx hb dX0_attempt_159 rfl (lv_at hl 6 rfl) ?_
              refine va_get (D := D) (ci := 0) (v := .int cn) (C := RX0) (T := TX0) (N := 13) hx hb hts in_X0 hown hK hP 0 rfl rfl 5 (by decide) (hts _ q42) (fun _ h9 => h9) rfl dX0_attempt_160 ?_
              refine lv_if_le (tgt := 207) hx hb dX0_attempt_163 (by decide) (fun c163 => ?_) (fun c163 => ?_)
              · have hn0 : ¬ 0 < go_n a := fun h => by
                  rw [hcn] at c163
                  exact nI_nle h (by omega) c163
                refine lv_aload_n hx hb dX0_attempt_207 rfl (lv_at hl 6 rfl) ?_
                refine lv_lload hx hb dX0_attempt_208 (lv_at hl 3 rfl) ?_
                refine go_pcI (As := [.long r80]) (rest := []) X (gX0_sizeOf r80) (cwV 1 hts (lw_V q111 q113 qs7 q26 q114) rfl rfl rfl (by decide +kernel) ⟨Nat.le_of_ble_eq_true rfl, Nat.le_of_ble_eq_true rfl⟩) hK hP (va_recv hK hP (ci := 0) (q0 := 0) rfl rfl) rfl rfl hl.1 (Nat.le_of_ble_eq_true rfl) dX0_attempt_210 ⟨Nat.zero_le _, Nat.zero_le _⟩ hS (fun r210 H1 locs p210 hk hS => ?_)
                have hP := hk _ hP
                clear hk
                generalize H1 = H at hP hS ⊢
                refine go_mri X hK hS ((v93, v47)) hP hD dX0_attempt_213 ?_
                refine ⟨?_, fun _ => ?_⟩
                · rw [p210, go_att_tv hP2 hK9 hB9, go_tv_k hnl2 (fun h => hn0 h.1), go_cnt_c (fun j _ => hca j)]
                  rfl
                · rw [nI_clamp (show P < 2 ^ 31 by omega), nI_clamp (show K < 2 ^ 31 by omega)]
                  exact hbd
              · have hn0 : 0 < go_n a := by
                  rcases Nat.eq_zero_or_pos (go_n a) with e | e
                  · exact absurd (by rw [hcn, e]; decide) c163
                  · exact e
                have hkeq := go_bd_eq hbd (hG.2.2.1 (go_n a - 1) (by omega)) (go_tb_b2 hI.1 hP2) (hI.2.2.1 (go_n a - 1) (by omega))
                refine lv_aload_n hx hb dX0_attempt_166 rfl (lv_at hl 6 rfl) ?_
                refine va_get (D := D) (ci := 0) (v := .long v93) (C := RX0) (T := TX0) (N := 13) hx hb hts in_X0 hown hK hP 0 rfl rfl 11 (by decide) (hts _ q48) (fun _ h9 => h9) rfl dX0_attempt_167 ?_
                refine lv_aload_n hx hb dX0_attempt_170 rfl (lv_at hl 6 rfl) ?_
                refine va_get (D := D) (ci := 0) (v := .ref (b 1)) (C := RX0) (T := TX0) (N := 13) hx hb hts in_X0 hown hK hP 0 rfl rfl 6 (by decide) (hts _ q43) (fun _ h9 => h9) rfl dX0_attempt_171 ?_
                refine lv_aload_n hx hb dX0_attempt_174 rfl (lv_at hl 6 rfl) ?_
                refine va_get (D := D) (ci := 0) (v := .int cn) (C := RX0) (T := TX0) (N := 13) hx hb hts in_X0 hown hK hP 0 rfl rfl 5 (by decide) (hts _ q42) (fun _ h9 => h9) rfl dX0_attempt_175 ?_
                refine lv_iconst (v := nI 1) hx hb dX0_attempt_178 (by decide) ?_
                refine lv_isub hx hb dX0_attempt_179 ?_
                refine lv_topi (fun v179 e179 => ?_)
                obtain rfl : v179 = nI (go_n a - 1) := e179.trans (by rw [hcn]; exact pk_sub (by omega))
                refine go_lld hx hb hK hP 1 0 rfl rfl (go_n a - 1) (rfl) (by omega) (by decide) dX0_attempt_180 ?_
                refine W.lcmp hx hb dX0_attempt_181 ?_
                refine lv_if_ne (tgt := 207) hx hb dX0_attempt_182 (by decide) (fun c182 => ?_) (fun c182 => ?_)
                · have c182 : ¬ v93 = ob (go_n a - 1) := fun h => c182 (go_cmp0.mpr h)
                  refine lv_aload_n hx hb dX0_attempt_207 rfl (lv_at hl 6 rfl) ?_
                  refine lv_lload hx hb dX0_attempt_208 (lv_at hl 3 rfl) ?_
                  refine go_pcI (As := [.long r80]) (rest := []) X (gX0_sizeOf r80) (cwV 1 hts (lw_V q111 q113 qs7 q26 q114) rfl rfl rfl (by decide +kernel) ⟨Nat.le_of_ble_eq_true rfl, Nat.le_of_ble_eq_true rfl⟩) hK hP (va_recv hK hP (ci := 0) (q0 := 0) rfl rfl) rfl rfl hl.1 (Nat.le_of_ble_eq_true rfl) dX0_attempt_210 ⟨Nat.zero_le _, Nat.zero_le _⟩ hS (fun r210 H1 locs p210 hk hS => ?_)
                  have hP := hk _ hP
                  clear hk
                  generalize H1 = H at hP hS ⊢
                  refine go_mri X hK hS ((v93, v47)) hP hD dX0_attempt_213 ?_
                  refine ⟨?_, fun _ => ?_⟩
                  · rw [p210, go_att_tv hP2 hK9 hB9, go_tv_k hnl2 (fun h => c182 (hkeq.mpr h.2).1), go_cnt_c (fun j _ => hca j)]
                    rfl
                  · rw [nI_clamp (show P < 2 ^ 31 by omega), nI_clamp (show K < 2 ^ 31 by omega)]
                    exact hbd
                · have c182 : v93 = ob (go_n a - 1) := go_cmp0.mp c182
                  refine lv_aload_n hx hb dX0_attempt_185 rfl (lv_at hl 6 rfl) ?_
                  refine va_get (D := D) (ci := 0) (v := .long v47) (C := RX0) (T := TX0) (N := 13) hx hb hts in_X0 hown hK hP 0 rfl rfl 12 (by decide) (hts _ q49) (fun _ h9 => h9) rfl dX0_attempt_186 ?_
                  refine lv_aload_n hx hb dX0_attempt_189 rfl (lv_at hl 6 rfl) ?_
                  refine va_get (D := D) (ci := 0) (v := .ref (b 2)) (C := RX0) (T := TX0) (N := 13) hx hb hts in_X0 hown hK hP 0 rfl rfl 7 (by decide) (hts _ q44) (fun _ h9 => h9) rfl dX0_attempt_190 ?_
                  refine lv_aload_n hx hb dX0_attempt_193 rfl (lv_at hl 6 rfl) ?_
                  refine va_get (D := D) (ci := 0) (v := .int cn) (C := RX0) (T := TX0) (N := 13) hx hb hts in_X0 hown hK hP 0 rfl rfl 5 (by decide) (hts _ q42) (fun _ h9 => h9) rfl dX0_attempt_194 ?_
                  refine lv_iconst (v := nI 1) hx hb dX0_attempt_197 (by decide) ?_
                  refine lv_isub hx hb dX0_attempt_198 ?_
                  refine lv_topi (fun v198 e198 => ?_)
                  obtain rfl : v198 = nI (go_n a - 1) := e198.trans (by rw [hcn]; exact pk_sub (by omega))
                  refine go_lld hx hb hK hP 2 1 rfl rfl (go_n a - 1) (rfl) (by omega) (by decide) dX0_attempt_199 ?_
                  refine W.lcmp hx hb dX0_attempt_200 ?_
                  refine lv_if_ne (tgt := 207) hx hb dX0_attempt_201 (by decide) (fun c201 => ?_) (fun c201 => ?_)
                  · have c201 : ¬ v47 = ow (go_n a - 1) := fun h => c201 (go_cmp0.mpr h)
                    refine lv_aload_n hx hb dX0_attempt_207 rfl (lv_at hl 6 rfl) ?_
                    refine lv_lload hx hb dX0_attempt_208 (lv_at hl 3 rfl) ?_
                    refine go_pcI (As := [.long r80]) (rest := []) X (gX0_sizeOf r80) (cwV 1 hts (lw_V q111 q113 qs7 q26 q114) rfl rfl rfl (by decide +kernel) ⟨Nat.le_of_ble_eq_true rfl, Nat.le_of_ble_eq_true rfl⟩) hK hP (va_recv hK hP (ci := 0) (q0 := 0) rfl rfl) rfl rfl hl.1 (Nat.le_of_ble_eq_true rfl) dX0_attempt_210 ⟨Nat.zero_le _, Nat.zero_le _⟩ hS (fun r210 H1 locs p210 hk hS => ?_)
                    have hP := hk _ hP
                    clear hk
                    generalize H1 = H at hP hS ⊢
                    refine go_mri X hK hS ((v93, v47)) hP hD dX0_attempt_213 ?_
                    refine ⟨?_, fun _ => ?_⟩
                    · rw [p210, go_att_tv hP2 hK9 hB9, go_tv_k hnl2 (fun h => c201 (hkeq.mpr h.2).2), go_cnt_c (fun j _ => hca j)]
                      rfl
                    · rw [nI_clamp (show P < 2 ^ 31 by omega), nI_clamp (show K < 2 ^ 31 by omega)]
                      exact hbd
                  · have c201 : v47 = ow (go_n a - 1) := go_cmp0.mp c201
                    refine lv_bipush (v := (-6)) hx hb dX0_attempt_204 (by decide) ?_
                    refine go_mri X hK hS ((v93, v47)) hP hD dX0_attempt_206 ?_
                    exact ⟨((go_att_tv hP2 hK9 hB9).trans (go_tv_6 hnl2 ⟨hn0, hkeq.mp ⟨c182, c201⟩⟩)).symm, fun h => absurd h (by decide)⟩
            · have c146 : P = 0 := (nI_eq (a := P) (b := 0) (by omega) (by omega)).mp c146
              exact absurd c146 c131
          · have c131 : P = 0 := (nI_eq (a := P) (b := 0) (by omega) (by omega)).mp c131
            refine lv_lload hx hb dX0_attempt_134 (lv_at hl 4 rfl) ?_
            refine lv_goto (tgt := 141) hx hb dX0_attempt_136 (by decide) ?_
            refine va_put (D := D) (ci := 0) (v := .long v47) (ty := .long) (C := RX0) (T := TX0) (N := 13) hx hb hts in_X0 tyX0 tyX0_ok nmX0 hown hK hP hD hS 0 rfl rfl 11 (by decide) (hts _ q48) (fun _ h9 => h9) rfl (by decide +kernel) rfl rfl (Nat.le_of_ble_eq_true rfl) dX0_attempt_141 (fun H locs hP hD hS => ?_)
            have hP : va_P D go_cl (go_G b cs bl wh cn ob ow ot bt wt v47 tw) H := hP
            have hD : va_D A (go_G b cs bl wh cn ob ow ot bt wt v47 tw) := hD
            refine lv_aload_n hx hb dX0_attempt_144 rfl (lv_at hl 6 rfl) ?_
            refine lv_iload_n hx hb dX0_attempt_145 rfl (lv_at hl 7 rfl) ?_
            refine lv_if_ne (tgt := 154) hx hb dX0_attempt_146 (by decide) (fun c146 => ?_) (fun c146 => ?_)
            · have c146 : ¬ P = 0 := fun h => c146 ((nI_eq (a := P) (b := 0) (by omega) (by omega)).mpr h)
              exact absurd c131 c146
            · have c146 : P = 0 := (nI_eq (a := P) (b := 0) (by omega) (by omega)).mp c146
              refine lv_lload hx hb dX0_attempt_149 (lv_at hl 2 rfl) ?_
              refine lv_goto (tgt := 156) hx hb dX0_attempt_151 (by decide) ?_
              refine va_put (D := D) (ci := 0) (v := .long v93) (ty := .long) (C := RX0) (T := TX0) (N := 13) hx hb hts in_X0 tyX0 tyX0_ok nmX0 hown hK hP hD hS 0 rfl rfl 12 (by decide) (hts _ q49) (fun _ h9 => h9) rfl (by decide +kernel) rfl rfl (Nat.le_of_ble_eq_true rfl) dX0_attempt_156 (fun H locs hP hD hS => ?_)
              have hP : va_P D go_cl (go_G b cs bl wh cn ob ow ot bt wt v47 v93) H := hP
              have hD : va_D A (go_G b cs bl wh cn ob ow ot bt wt v47 v93) := hD
              have hbd : go_bd (go_tb (go_B a) P K) v47 v93 := by
                subst c131
                exact ⟨hmi2, hth2⟩
              refine lv_aload_n hx hb dX0_attempt_159 rfl (lv_at hl 6 rfl) ?_
              refine va_get (D := D) (ci := 0) (v := .int cn) (C := RX0) (T := TX0) (N := 13) hx hb hts in_X0 hown hK hP 0 rfl rfl 5 (by decide) (hts _ q42) (fun _ h9 => h9) rfl dX0_attempt_160 ?_
              refine lv_if_le (tgt := 207) hx hb dX0_attempt_163 (by decide) (fun c163 => ?_) (fun c163 => ?_)
              · have hn0 : ¬ 0 < go_n a := fun h => by
                  rw [hcn] at c163
                  exact nI_nle h (by omega) c163
                refine lv_aload_n hx hb dX0_attempt_207 rfl (lv_at hl 6 rfl) ?_
                refine lv_lload hx hb dX0_attempt_208 (lv_at hl 3 rfl) ?_
                refine go_pcI (As := [.long r80]) (rest := []) X (gX0_sizeOf r80) (cwV 1 hts (lw_V q111 q113 qs7 q26 q114) rfl rfl rfl (by decide +kernel) ⟨Nat.le_of_ble_eq_true rfl, Nat.le_of_ble_eq_true rfl⟩) hK hP (va_recv hK hP (ci := 0) (q0 := 0) rfl rfl) rfl rfl hl.1 (Nat.le_of_ble_eq_true rfl) dX0_attempt_210 ⟨Nat.zero_le _, Nat.zero_le _⟩ hS (fun r210 H1 locs p210 hk hS => ?_)
                have hP := hk _ hP
                clear hk
                generalize H1 = H at hP hS ⊢
                refine go_mri X hK hS ((v47, v93)) hP hD dX0_attempt_213 ?_
                refine ⟨?_, fun _ => ?_⟩
                · rw [p210, go_att_tv hP2 hK9 hB9, go_tv_k hnl2 (fun h => hn0 h.1), go_cnt_c (fun j _ => hca j)]
                  rfl
                · rw [nI_clamp (show P < 2 ^ 31 by omega), nI_clamp (show K < 2 ^ 31 by omega)]
                  exact hbd
              · have hn0 : 0 < go_n a := by
                  rcases Nat.eq_zero_or_pos (go_n a) with e | e
                  · exact absurd (by rw [hcn, e]; decide) c163
                  · exact e
                have hkeq := go_bd_eq hbd (hG.2.2.1 (go_n a - 1) (by omega)) (go_tb_b2 hI.1 hP2) (hI.2.2.1 (go_n a - 1) (by omega))
                refine lv_aload_n hx hb dX0_attempt_166 rfl (lv_at hl 6 rfl) ?_
                refine va_get (D := D) (ci := 0) (v := .long v47) (C := RX0) (T := TX0) (N := 13) hx hb hts in_X0 hown hK hP 0 rfl rfl 11 (by decide) (hts _ q48) (fun _ h9 => h9) rfl dX0_attempt_167 ?_
                refine lv_aload_n hx hb dX0_attempt_170 rfl (lv_at hl 6 rfl) ?_
                refine va_get (D := D) (ci := 0) (v := .ref (b 1)) (C := RX0) (T := TX0) (N := 13) hx hb hts in_X0 hown hK hP 0 rfl rfl 6 (by decide) (hts _ q43) (fun _ h9 => h9) rfl dX0_attempt_171 ?_
                refine lv_aload_n hx hb dX0_attempt_174 rfl (lv_at hl 6 rfl) ?_
                refine va_get (D := D) (ci := 0) (v := .int cn) (C := RX0) (T := TX0) (N := 13) hx hb hts in_X0 hown hK hP 0 rfl rfl 5 (by decide) (hts _ q42) (fun _ h9 => h9) rfl dX0_attempt_175 ?_
                refine lv_iconst (v := nI 1) hx hb dX0_attempt_178 (by decide) ?_
                refine lv_isub hx hb dX0_attempt_179 ?_
                refine lv_topi (fun v179 e179 => ?_)
                obtain rfl : v179 = nI (go_n a - 1) := e179.trans (by rw [hcn]; exact pk_sub (by omega))
                refine go_lld hx hb hK hP 1 0 rfl rfl (go_n a - 1) (rfl) (by omega) (by decide) dX0_attempt_180 ?_
                refine W.lcmp hx hb dX0_attempt_181 ?_
                refine lv_if_ne (tgt := 207) hx hb dX0_attempt_182 (by decide) (fun c182 => ?_) (fun c182 => ?_)
                · have c182 : ¬ v47 = ob (go_n a - 1) := fun h => c182 (go_cmp0.mpr h)
                  refine lv_aload_n hx hb dX0_attempt_207 rfl (lv_at hl 6 rfl) ?_
                  refine lv_lload hx hb dX0_attempt_208 (lv_at hl 3 rfl) ?_
                  refine go_pcI (As := [.long r80]) (rest := []) X (gX0_sizeOf r80) (cwV 1 hts (lw_V q111 q113 qs7 q26 q114) rfl rfl rfl (by decide +kernel) ⟨Nat.le_of_ble_eq_true rfl, Nat.le_of_ble_eq_true rfl⟩) hK hP (va_recv hK hP (ci := 0) (q0 := 0) rfl rfl) rfl rfl hl.1 (Nat.le_of_ble_eq_true rfl) dX0_attempt_210 ⟨Nat.zero_le _, Nat.zero_le _⟩ hS (fun r210 H1 locs p210 hk hS => ?_)
                  have hP := hk _ hP
                  clear hk
                  generalize H1 = H at hP hS ⊢
                  refine go_mri X hK hS ((v47, v93)) hP hD dX0_attempt_213 ?_
                  refine ⟨?_, fun _ => ?_⟩
                  · rw [p210, go_att_tv hP2 hK9 hB9, go_tv_k hnl2 (fun h => c182 (hkeq.mpr h.2).1), go_cnt_c (fun j _ => hca j)]
                    rfl
                  · rw [nI_clamp (show P < 2 ^ 31 by omega), nI_clamp (show K < 2 ^ 31 by omega)]
                    exact hbd
                · have c182 : v47 = ob (go_n a - 1) := go_cmp0.mp c182
                  refine lv_aload_n hx hb dX0_attempt_185 rfl (lv_at hl 6 rfl) ?_
                  refine va_get (D := D) (ci := 0) (v := .long v93) (C := RX0) (T := TX0) (N := 13) hx hb hts in_X0 hown hK hP 0 rfl rfl 12 (by decide) (hts _ q49) (fun _ h9 => h9) rfl dX0_attempt_186 ?_
                  refine lv_aload_n hx hb dX0_attempt_189 rfl (lv_at hl 6 rfl) ?_
                  refine va_get (D := D) (ci := 0) (v := .ref (b 2)) (C := RX0) (T := TX0) (N := 13) hx hb hts in_X0 hown hK hP 0 rfl rfl 7 (by decide) (hts _ q44) (fun _ h9 => h9) rfl dX0_attempt_190 ?_
                  refine lv_aload_n hx hb dX0_attempt_193 rfl (lv_at hl 6 rfl) ?_
                  refine va_get (D := D) (ci := 0) (v := .int cn) (C := RX0) (T := TX0) (N := 13) hx hb hts in_X0 hown hK hP 0 rfl rfl 5 (by decide) (hts _ q42) (fun _ h9 => h9) rfl dX0_attempt_194 ?_
                  refine lv_iconst (v := nI 1) hx hb dX0_attempt_197 (by decide) ?_
                  refine lv_isub hx hb dX0_attempt_198 ?_
                  refine lv_topi (fun v198 e198 => ?_)
                  obtain rfl : v198 = nI (go_n a - 1) := e198.trans (by rw [hcn]; exact pk_sub (by omega))
                  refine go_lld hx hb hK hP 2 1 rfl rfl (go_n a - 1) (rfl) (by omega) (by decide) dX0_attempt_199 ?_
                  refine W.lcmp hx hb dX0_attempt_200 ?_
                  refine lv_if_ne (tgt := 207) hx hb dX0_attempt_201 (by decide) (fun c201 => ?_) (fun c201 => ?_)
                  · have c201 : ¬ v93 = ow (go_n a - 1) := fun h => c201 (go_cmp0.mpr h)
                    refine lv_aload_n hx hb dX0_attempt_207 rfl (lv_at hl 6 rfl) ?_
                    refine lv_lload hx hb dX0_attempt_208 (lv_at hl 3 rfl) ?_
                    refine go_pcI (As := [.long r80]) (rest := []) X (gX0_sizeOf r80) (cwV 1 hts (lw_V q111 q113 qs7 q26 q114) rfl rfl rfl (by decide +kernel) ⟨Nat.le_of_ble_eq_true rfl, Nat.le_of_ble_eq_true rfl⟩) hK hP (va_recv hK hP (ci := 0) (q0 := 0) rfl rfl) rfl rfl hl.1 (Nat.le_of_ble_eq_true rfl) dX0_attempt_210 ⟨Nat.zero_le _, Nat.zero_le _⟩ hS (fun r210 H1 locs p210 hk hS => ?_)
                    have hP := hk _ hP
                    clear hk
                    generalize H1 = H at hP hS ⊢
                    refine go_mri X hK hS ((v47, v93)) hP hD dX0_attempt_213 ?_
                    refine ⟨?_, fun _ => ?_⟩
                    · rw [p210, go_att_tv hP2 hK9 hB9, go_tv_k hnl2 (fun h => c201 (hkeq.mpr h.2).2), go_cnt_c (fun j _ => hca j)]
                      rfl
                    · rw [nI_clamp (show P < 2 ^ 31 by omega), nI_clamp (show K < 2 ^ 31 by omega)]
                      exact hbd
                  · have c201 : v93 = ow (go_n a - 1) := go_cmp0.mp c201
                    refine lv_bipush (v := (-6)) hx hb dX0_attempt_204 (by decide) ?_
                    refine go_mri X hK hS ((v47, v93)) hP hD dX0_attempt_206 ?_
                    exact ⟨((go_att_tv hP2 hK9 hB9).trans (go_tv_6 hnl2 ⟨hn0, hkeq.mp ⟨c182, c201⟩⟩)).symm, fun h => absurd h (by decide)⟩
        · have c123 : v120 = 0 := go_cmp0.mp c123
          refine lv_bipush (v := (-5)) hx hb dX0_attempt_126 (by decide) ?_
          refine go_mri X hK hS ((tb, tw)) hP hD dX0_attempt_128 ?_
          exact ⟨((go_att_tv hP2 hK9 hB9).trans (go_tv_5 (hnl.mp c123))).symm, fun h => absurd h (by decide)⟩
      · have c35 : ¬ v32 = 0 := fun h => c35 (go_cmp0.mpr h)
        have hB9 : ¬ go_B a K = 2 := fun e => c35 (by rw [e32, e30, e20]; exact (go_stone hG.1 hI.1 hK9).mpr e)
        refine lv_bipush (v := (-2)) hx hb dX0_attempt_38 (by decide) ?_
        refine go_mri X hK hS ((tb, tw)) hP hD dX0_attempt_40 ?_
        exact ⟨(go_att_tk hP2 hK9 hB9).symm, fun h => absurd h (by decide)⟩
    · refine lv_iconst (v := (-1)) hx hb dX0_attempt_16 (by decide) ?_
      refine go_mri X hK hS ((tb, tw)) hP hD dX0_attempt_17 ?_
      exact ⟨(go_att_bad (fun h => (go_bz p10).2 c13 h.2)).symm, fun h => absurd h (by decide)⟩
set_option maxHeartbeats 4000000 in
set_option maxRecDepth 100000 in
theorem gX0_store   (N : Nat) (hN : N < 40) (hcn : cn = nI N) : ∀ sz : Nat, Met l yX0_store (ws_ yX0_store cX0_store 1 none) ({ frames := 0, cells := 0, slots := 0, locals := 0 } : Room) (go_mP D (go_G b cs bl wh cn ob ow ot bt wt tb tw) (go_Gt cs) sz [.ref (b 0)]) (go_mQv (fun (u : Int32 × (Nat → Int64) × (Nat → Int64) × (Nat → Int32)) => match u with | (cn', ob', ow', ot') => cn' = nI (N + 1) ∧ ob' = vp_updL ob N bl ∧ ow' = vp_updL ow N wh ∧ ot' = upd ot N (bt * nI 1000 + wt)) D (go_Gt cs) (fun u : Int32 × (Nat → Int64) × (Nat → Int64) × (Nat → Int32) => match u with | (cn', ob', ow', ot') => go_G b cs bl wh cn' ob' ow' ot' bt wt tb tw) (va_A (go_G b cs bl wh cn ob ow ot bt wt tb tw) sz)) 0 0 (va_A (go_G b cs bl wh cn ob ow ot bt wt tb tw) sz) := by
  refine go_mMet (Qf := fun A => go_mQv (fun (u : Int32 × (Nat → Int64) × (Nat → Int64) × (Nat → Int32)) => match u with | (cn', ob', ow', ot') => cn' = nI (N + 1) ∧ ob' = vp_updL ob N bl ∧ ow' = vp_updL ow N wh ∧ ot' = upd ot N (bt * nI 1000 + wt)) D (go_Gt cs) (fun u : Int32 × (Nat → Int64) × (Nat → Int64) × (Nat → Int32) => match u with | (cn', ob', ow', ot') => go_G b cs bl wh cn' ob' ow' ot' bt wt tb tw) A) (by decide) (Nat.le_of_ble_eq_true rfl) ?_
  intro p e s m below meth c ls A X hK hP hD hA hS hl
  have hl : lv_has ls 1 [(0, .ref (b 0))] := hl
  obtain ⟨hx, hb, hml, hr, hlocks, hown, hts⟩ := id X
  have hP : va_P D go_cl (go_G b cs bl wh cn ob ow ot bt wt tb tw) s.heap := hP
  refine lv_aload_n hx hb dX0_store_0 rfl (lv_at hl 0 rfl) ?_
  refine va_get (D := D) (ci := 0) (v := .ref (b 1)) (C := RX0) (T := TX0) (N := 13) hx hb hts in_X0 hown hK hP 0 rfl rfl 6 (by decide) (hts _ q43) (fun _ h9 => h9) rfl dX0_store_1 ?_
  refine lv_aload_n hx hb dX0_store_4 rfl (lv_at hl 0 rfl) ?_
  refine va_get (D := D) (ci := 0) (v := .int cn) (C := RX0) (T := TX0) (N := 13) hx hb hts in_X0 hown hK hP 0 rfl rfl 5 (by decide) (hts _ q42) (fun _ h9 => h9) rfl dX0_store_5 ?_
  refine lv_aload_n hx hb dX0_store_8 rfl (lv_at hl 0 rfl) ?_
  refine va_get (D := D) (ci := 0) (v := .long bl) (C := RX0) (T := TX0) (N := 13) hx hb hts in_X0 hown hK hP 0 rfl rfl 3 (by decide) (hts _ q40) (fun _ h9 => h9) rfl dX0_store_9 ?_
  refine go_lst hx hb hK hP hD hS 1 0 rfl rfl N (hcn) (hN) (by decide) dX0_store_12 (fun ob_12 H locs eob_12 hP hD hS => ?_)
  have hP : va_P D go_cl (go_G b cs bl wh cn ob_12 ow ot bt wt tb tw) H := hP
  have hD : va_D A (go_G b cs bl wh cn ob_12 ow ot bt wt tb tw) := hD
  refine lv_aload_n hx hb dX0_store_13 rfl (lv_at hl 0 rfl) ?_
  refine va_get (D := D) (ci := 0) (v := .ref (b 2)) (C := RX0) (T := TX0) (N := 13) hx hb hts in_X0 hown hK hP 0 rfl rfl 7 (by decide) (hts _ q44) (fun _ h9 => h9) rfl dX0_store_14 ?_
  refine lv_aload_n hx hb dX0_store_17 rfl (lv_at hl 0 rfl) ?_
  refine va_get (D := D) (ci := 0) (v := .int cn) (C := RX0) (T := TX0) (N := 13) hx hb hts in_X0 hown hK hP 0 rfl rfl 5 (by decide) (hts _ q42) (fun _ h9 => h9) rfl dX0_store_18 ?_
  refine lv_aload_n hx hb dX0_store_21 rfl (lv_at hl 0 rfl) ?_
  refine va_get (D := D) (ci := 0) (v := .long wh) (C := RX0) (T := TX0) (N := 13) hx hb hts in_X0 hown hK hP 0 rfl rfl 4 (by decide) (hts _ q41) (fun _ h9 => h9) rfl dX0_store_22 ?_
  refine go_lst hx hb hK hP hD hS 2 1 rfl rfl N (hcn) (hN) (by decide) dX0_store_25 (fun ow_25 H locs eow_25 hP hD hS => ?_)
  have hP : va_P D go_cl (go_G b cs bl wh cn ob_12 ow_25 ot bt wt tb tw) H := hP
  have hD : va_D A (go_G b cs bl wh cn ob_12 ow_25 ot bt wt tb tw) := hD
  refine lv_aload_n hx hb dX0_store_26 rfl (lv_at hl 0 rfl) ?_
  refine va_get (D := D) (ci := 0) (v := .ref (b 3)) (C := RX0) (T := TX0) (N := 13) hx hb hts in_X0 hown hK hP 0 rfl rfl 8 (by decide) (hts _ q45) (fun _ h9 => h9) rfl dX0_store_27 ?_
  refine lv_aload_n hx hb dX0_store_30 rfl (lv_at hl 0 rfl) ?_
  refine va_get (D := D) (ci := 0) (v := .int cn) (C := RX0) (T := TX0) (N := 13) hx hb hts in_X0 hown hK hP 0 rfl rfl 5 (by decide) (hts _ q42) (fun _ h9 => h9) rfl dX0_store_31 ?_
  refine lv_aload_n hx hb dX0_store_34 rfl (lv_at hl 0 rfl) ?_
  refine va_get (D := D) (ci := 0) (v := .int bt) (C := RX0) (T := TX0) (N := 13) hx hb hts in_X0 hown hK hP 0 rfl rfl 9 (by decide) (hts _ q46) (fun _ h9 => h9) rfl dX0_store_35 ?_
  refine lv_sipush (v := nI 1000) hx hb dX0_store_38 (by decide) ?_
  refine lv_imul hx hb dX0_store_41 ?_
  refine lv_topi (fun v41 e41 => ?_)
  refine lv_aload_n hx hb dX0_store_42 rfl (lv_at hl 0 rfl) ?_
  refine va_get (D := D) (ci := 0) (v := .int wt) (C := RX0) (T := TX0) (N := 13) hx hb hts in_X0 hown hK hP 0 rfl rfl 10 (by decide) (hts _ q47) (fun _ h9 => h9) rfl dX0_store_43 ?_
  refine lv_iadd hx hb dX0_store_46 ?_
  refine lv_topi (fun v46 e46 => ?_)
  refine go_ist hx hb hK hP hD hS 3 2 rfl rfl N (hcn) (hN) (by decide) dX0_store_47 (fun ot_47 H locs eot_47 hP hD hS => ?_)
  have hP : va_P D go_cl (go_G b cs bl wh cn ob_12 ow_25 ot_47 bt wt tb tw) H := hP
  have hD : va_D A (go_G b cs bl wh cn ob_12 ow_25 ot_47 bt wt tb tw) := hD
  refine lv_aload_n hx hb dX0_store_48 rfl (lv_at hl 0 rfl) ?_
  refine lv_dup hx hb dX0_store_49 rfl ?_
  refine va_get (D := D) (ci := 0) (v := .int cn) (C := RX0) (T := TX0) (N := 13) hx hb hts in_X0 hown hK hP 0 rfl rfl 5 (by decide) (hts _ q42) (fun _ h9 => h9) rfl dX0_store_50 ?_
  refine lv_iconst (v := nI 1) hx hb dX0_store_53 (by decide) ?_
  refine lv_iadd hx hb dX0_store_54 ?_
  refine lv_topi (fun v54 e54 => ?_)
  obtain rfl : v54 = nI (N + 1) := e54.trans (by rw [hcn]; exact nI_add N 1)
  refine va_put (D := D) (ci := 0) (v := .int (nI (N + 1))) (ty := .int) (C := RX0) (T := TX0) (N := 13) hx hb hts in_X0 tyX0 tyX0_ok nmX0 hown hK hP hD hS 0 rfl rfl 5 (by decide) (hts _ q42) (fun _ h9 => h9) rfl (by decide +kernel) rfl rfl (Nat.le_of_ble_eq_true rfl) dX0_store_55 (fun H locs hP hD hS => ?_)
  have hP : va_P D go_cl (go_G b cs bl wh (nI (N + 1)) ob_12 ow_25 ot_47 bt wt tb tw) H := hP
  have hD : va_D A (go_G b cs bl wh (nI (N + 1)) ob_12 ow_25 ot_47 bt wt tb tw) := hD
  refine go_mrv X hK hS ((nI (N + 1), ob_12, ow_25, ot_47)) hP hD dX0_store_58 ?_
  exact ⟨rfl, eob_12, eow_25, eot_47.trans (by rw [e46, e41])⟩
set_option maxHeartbeats 4000000 in
set_option maxRecDepth 100000 in
theorem gX0_play  (pa : Int32) (qa : Int32) (hG : go_GI a bl wh cn ob ow ot bt wt) (hI : go_AI a) : ∀ sz : Nat, Met l yX0_play (ws_ yX0_play cX0_play 4 (some .int)) ({ frames := 4, cells := 0, slots := 0, locals := 122 } : Room) (go_mP D (go_G b cs bl wh cn ob ow ot bt wt tb tw) (go_Gt cs) sz [.ref (b 0), .int pa, .int qa]) (go_mQi (fun (r : Int32) (u : Int64 × Int64 × Int32 × (Nat → Int64) × (Nat → Int64) × (Nat → Int32) × Int32 × Int32 × Int64 × Int64) => match u with | (bl', wh', cn', ob', ow', ot', bt', wt', tb', tw') => r = go_aPlay a pa qa ∧ go_GI (go_sPlay a pa qa) bl' wh' cn' ob' ow' ot' bt' wt') D (go_Gt cs) (fun u : Int64 × Int64 × Int32 × (Nat → Int64) × (Nat → Int64) × (Nat → Int32) × Int32 × Int32 × Int64 × Int64 => match u with | (bl', wh', cn', ob', ow', ot', bt', wt', tb', tw') => go_G b cs bl' wh' cn' ob' ow' ot' bt' wt' tb' tw') (va_A (go_G b cs bl wh cn ob ow ot bt wt tb tw) sz)) 0 0 (va_A (go_G b cs bl wh cn ob ow ot bt wt tb tw) sz) := by
  refine go_mMet (Qf := fun A => go_mQi (fun (r : Int32) (u : Int64 × Int64 × Int32 × (Nat → Int64) × (Nat → Int64) × (Nat → Int32) × Int32 × Int32 × Int64 × Int64) => match u with | (bl', wh', cn', ob', ow', ot', bt', wt', tb', tw') => r = go_aPlay a pa qa ∧ go_GI (go_sPlay a pa qa) bl' wh' cn' ob' ow' ot' bt' wt') D (go_Gt cs) (fun u : Int64 × Int64 × Int32 × (Nat → Int64) × (Nat → Int64) × (Nat → Int32) × Int32 × Int32 × Int64 × Int64 => match u with | (bl', wh', cn', ob', ow', ot', bt', wt', tb', tw') => go_G b cs bl' wh' cn' ob' ow' ot' bt' wt' tb' tw') A) (by decide) (Nat.le_of_ble_eq_true rfl) ?_
  intro p e s m below meth c ls A X hK hP hD hA hS hl
  have hl : lv_has ls 4 [(0, .ref (b 0)), (1, .int pa), (2, .int qa)] := hl
  obtain ⟨hx, hb, hml, hr, hlocks, hown, hts⟩ := id X
  have hP : va_P D go_cl (go_G b cs bl wh cn ob ow ot bt wt tb tw) s.heap := hP
  have hcn := hG.2.1
  have hn40 := hI.2.1
  refine lv_aload_n hx hb dX0_play_0 rfl (lv_at hl 0 rfl) ?_
  refine lv_iload_n hx hb dX0_play_1 rfl (lv_at hl 1 rfl) ?_
  refine lv_iload_n hx hb dX0_play_2 rfl (lv_at hl 2 rfl) ?_
  refine go_mcI (As := [.int pa, .int qa]) (rest := []) X (gX0_attempt pa qa hG hI) (cwV 2 hts (lw_V q83 q85 qs0 q26 q86) rfl rfl rfl (by decide +kernel) ⟨Nat.le_of_ble_eq_true rfl, Nat.le_of_ble_eq_true rfl⟩) hK hP hD hA (va_recv hK hP (ci := 0) (q0 := 0) rfl rfl) rfl rfl hl.1 (Nat.le_of_ble_eq_true rfl) dX0_play_3 ⟨Nat.zero_le _, Nat.zero_le _⟩ hS (fun r3 u3 H1 locs p3 hP hD hS hk => ?_)
  clear hk
  obtain ⟨tb_3, tw_3⟩ := u3
  generalize H1 = H at hP hS ⊢
  have hP : va_P D go_cl (go_G b cs bl wh cn ob ow ot bt wt tb_3 tw_3) H := hP
  have hD : va_D A (go_G b cs bl wh cn ob ow ot bt wt tb_3 tw_3) := hD
  try dsimp only at p3
  have hat := go_att_3 p3.1
  refine lv_istore_n (lv' := [(3, .int r3), (0, .ref (b 0)), (1, .int pa), (2, .int qa)]) hx hb dX0_play_6 rfl hl (by decide) rfl (fun ls hl => ?_)
  refine lv_iload_n hx hb dX0_play_7 rfl (lv_at hl 0 rfl) ?_
  refine lv_iconst (v := (-1)) hx hb dX0_play_8 (by decide) ?_
  refine lv_icmp_eq (tgt := 18) hx hb dX0_play_9 (by decide) (fun c9 => ?_) (fun c9 => ?_)
  · refine lv_iload_n hx hb dX0_play_18 rfl (lv_at hl 0 rfl) ?_
    refine go_mri X hK hS ((bl, wh, cn, ob, ow, ot, bt, wt, tb_3, tw_3)) hP hD dX0_play_19 ?_
    have hh := go_play_bad (a := a) (hat.1 c9)
    rw [hh.1, hh.2]
    exact ⟨c9, hG⟩
  · refine lv_iload_n hx hb dX0_play_12 rfl (lv_at hl 0 rfl) ?_
    refine lv_bipush (v := (-2)) hx hb dX0_play_13 (by decide) ?_
    refine lv_icmp_ne (tgt := 20) hx hb dX0_play_15 (by decide) (fun c15 => ?_) (fun c15 => ?_)
    · obtain ⟨P, K, hP2, hK9, rfl, rfl, hB9, etv⟩ := hat.2.2 c9 c15
      have hbd := p3.2
      rw [nI_clamp (show P < 2 ^ 31 by omega), nI_clamp (show K < 2 ^ 31 by omega)] at hbd
      refine lv_aload_n hx hb dX0_play_20 rfl (lv_at hl 1 rfl) ?_
      refine va_get (D := D) (ci := 0) (v := .int cn) (C := RX0) (T := TX0) (N := 13) hx hb hts in_X0 hown hK hP 0 rfl rfl 5 (by decide) (hts _ q42) (fun _ h9 => h9) rfl dX0_play_21 ?_
      refine lv_bipush (v := nI 40) hx hb dX0_play_24 (by decide) ?_
      refine lv_icmp_ne (tgt := 32) hx hb dX0_play_26 (by decide) (fun c26 => ?_) (fun c26 => ?_)
      · have hn40e : ¬ go_n a = 40 := fun e => c26 (by rw [hcn, e])
        refine lv_iload_n hx hb dX0_play_32 rfl (lv_at hl 0 rfl) ?_
        refine lv_if_ge (tgt := 38) hx hb dX0_play_33 (by decide) (fun c33 => ?_) (fun c33 => ?_)
        · refine lv_aload_n hx hb dX0_play_38 rfl (lv_at hl 1 rfl) ?_
          refine go_mcV (As := []) (rest := []) X (gX0_store  (go_n a) (by omega) hcn) (cwV 0 hts (lw_V q115 q117 qs8 q26 q118) rfl rfl rfl (by decide +kernel) ⟨Nat.le_of_ble_eq_true rfl, Nat.le_of_ble_eq_true rfl⟩) hK hP hD hA (va_recv hK hP (ci := 0) (q0 := 0) rfl rfl) rfl rfl hl.1 (Nat.le_of_ble_eq_true rfl) dX0_play_39 ⟨Nat.zero_le _, Nat.zero_le _⟩ hS (fun u39 H1 locs p39 hP hD hS => ?_)
          obtain ⟨cn_39, ob_39, ow_39, ot_39⟩ := u39
          generalize H1 = H at hP hS ⊢
          have hP : va_P D go_cl (go_G b cs bl wh cn_39 ob_39 ow_39 ot_39 bt wt tb_3 tw_3) H := hP
          have hD : va_D A (go_G b cs bl wh cn_39 ob_39 ow_39 ot_39 bt wt tb_3 tw_3) := hD
          try dsimp only at p39
          refine lv_aload_n hx hb dX0_play_42 rfl (lv_at hl 1 rfl) ?_
          refine lv_aload_n hx hb dX0_play_43 rfl (lv_at hl 1 rfl) ?_
          refine va_get (D := D) (ci := 0) (v := .long tb_3) (C := RX0) (T := TX0) (N := 13) hx hb hts in_X0 hown hK hP 0 rfl rfl 11 (by decide) (hts _ q48) (fun _ h9 => h9) rfl dX0_play_44 ?_
          refine va_put (D := D) (ci := 0) (v := .long tb_3) (ty := .long) (C := RX0) (T := TX0) (N := 13) hx hb hts in_X0 tyX0 tyX0_ok nmX0 hown hK hP hD hS 0 rfl rfl 3 (by decide) (hts _ q40) (fun _ h9 => h9) rfl (by decide +kernel) rfl rfl (Nat.le_of_ble_eq_true rfl) dX0_play_47 (fun H locs hP hD hS => ?_)
          have hP : va_P D go_cl (go_G b cs tb_3 wh cn_39 ob_39 ow_39 ot_39 bt wt tb_3 tw_3) H := hP
          have hD : va_D A (go_G b cs tb_3 wh cn_39 ob_39 ow_39 ot_39 bt wt tb_3 tw_3) := hD
          refine lv_aload_n hx hb dX0_play_50 rfl (lv_at hl 1 rfl) ?_
          refine lv_aload_n hx hb dX0_play_51 rfl (lv_at hl 1 rfl) ?_
          refine va_get (D := D) (ci := 0) (v := .long tw_3) (C := RX0) (T := TX0) (N := 13) hx hb hts in_X0 hown hK hP 0 rfl rfl 12 (by decide) (hts _ q49) (fun _ h9 => h9) rfl dX0_play_52 ?_
          refine va_put (D := D) (ci := 0) (v := .long tw_3) (ty := .long) (C := RX0) (T := TX0) (N := 13) hx hb hts in_X0 tyX0 tyX0_ok nmX0 hown hK hP hD hS 0 rfl rfl 4 (by decide) (hts _ q41) (fun _ h9 => h9) rfl (by decide +kernel) rfl rfl (Nat.le_of_ble_eq_true rfl) dX0_play_55 (fun H locs hP hD hS => ?_)
          have hP : va_P D go_cl (go_G b cs tb_3 tw_3 cn_39 ob_39 ow_39 ot_39 bt wt tb_3 tw_3) H := hP
          have hD : va_D A (go_G b cs tb_3 tw_3 cn_39 ob_39 ow_39 ot_39 bt wt tb_3 tw_3) := hD
          refine lv_iload_n hx hb dX0_play_58 rfl (lv_at hl 2 rfl) ?_
          refine lv_if_ne (tgt := 75) hx hb dX0_play_59 (by decide) (fun c59 => ?_) (fun c59 => ?_)
          · have c59 : ¬ P = 0 := fun h => c59 ((nI_eq (a := P) (b := 0) (by omega) (by omega)).mpr h)
            refine lv_aload_n hx hb dX0_play_75 rfl (lv_at hl 1 rfl) ?_
            refine lv_aload_n hx hb dX0_play_76 rfl (lv_at hl 1 rfl) ?_
            refine va_get (D := D) (ci := 0) (v := .int wt) (C := RX0) (T := TX0) (N := 13) hx hb hts in_X0 hown hK hP 0 rfl rfl 10 (by decide) (hts _ q47) (fun _ h9 => h9) rfl dX0_play_77 ?_
            refine lv_iload_n hx hb dX0_play_80 rfl (lv_at hl 0 rfl) ?_
            refine lv_iadd hx hb dX0_play_81 ?_
            refine lv_topi (fun v81 e81 => ?_)
            refine va_put (D := D) (ci := 0) (v := .int v81) (ty := .int) (C := RX0) (T := TX0) (N := 13) hx hb hts in_X0 tyX0 tyX0_ok nmX0 hown hK hP hD hS 0 rfl rfl 10 (by decide) (hts _ q47) (fun _ h9 => h9) rfl (by decide +kernel) rfl rfl (Nat.le_of_ble_eq_true rfl) dX0_play_82 (fun H locs hP hD hS => ?_)
            have hP : va_P D go_cl (go_G b cs tb_3 tw_3 cn_39 ob_39 ow_39 ot_39 bt v81 tb_3 tw_3) H := hP
            have hD : va_D A (go_G b cs tb_3 tw_3 cn_39 ob_39 ow_39 ot_39 bt v81 tb_3 tw_3) := hD
            refine lv_iload_n hx hb dX0_play_85 rfl (lv_at hl 0 rfl) ?_
            refine go_mri X hK hS ((tb_3, tw_3, cn_39, ob_39, ow_39, ot_39, bt, v81, tb_3, tw_3)) hP hD dX0_play_86 ?_
            have hh := go_play_pos (a := a) hP2 hK9 hB9 hn40e (by rw [← etv]; exact c33)
            rw [hh.1, hh.2]
            have etk : r3 = nI (go_tk (go_B a) P K) := etv.trans (go_tv_pos (by rw [← etv]; exact c33))
            exact ⟨etv, go_GI_new hG (hbd c33) p39.1 p39.2.1 p39.2.2.1 p39.2.2.2 (by rw [hG.2.2.2.2.1, if_neg c59, Nat.add_zero]) (by rw [e81, hG.2.2.2.2.2, etk, nI_add, if_neg c59])⟩
          · have c59 : P = 0 := (nI_eq (a := P) (b := 0) (by omega) (by omega)).mp c59
            refine lv_aload_n hx hb dX0_play_62 rfl (lv_at hl 1 rfl) ?_
            refine lv_aload_n hx hb dX0_play_63 rfl (lv_at hl 1 rfl) ?_
            refine va_get (D := D) (ci := 0) (v := .int bt) (C := RX0) (T := TX0) (N := 13) hx hb hts in_X0 hown hK hP 0 rfl rfl 9 (by decide) (hts _ q46) (fun _ h9 => h9) rfl dX0_play_64 ?_
            refine lv_iload_n hx hb dX0_play_67 rfl (lv_at hl 0 rfl) ?_
            refine lv_iadd hx hb dX0_play_68 ?_
            refine lv_topi (fun v68 e68 => ?_)
            refine va_put (D := D) (ci := 0) (v := .int v68) (ty := .int) (C := RX0) (T := TX0) (N := 13) hx hb hts in_X0 tyX0 tyX0_ok nmX0 hown hK hP hD hS 0 rfl rfl 9 (by decide) (hts _ q46) (fun _ h9 => h9) rfl (by decide +kernel) rfl rfl (Nat.le_of_ble_eq_true rfl) dX0_play_69 (fun H locs hP hD hS => ?_)
            have hP : va_P D go_cl (go_G b cs tb_3 tw_3 cn_39 ob_39 ow_39 ot_39 v68 wt tb_3 tw_3) H := hP
            have hD : va_D A (go_G b cs tb_3 tw_3 cn_39 ob_39 ow_39 ot_39 v68 wt tb_3 tw_3) := hD
            refine lv_goto (tgt := 85) hx hb dX0_play_72 (by decide) ?_
            refine lv_iload_n hx hb dX0_play_85 rfl (lv_at hl 0 rfl) ?_
            refine go_mri X hK hS ((tb_3, tw_3, cn_39, ob_39, ow_39, ot_39, v68, wt, tb_3, tw_3)) hP hD dX0_play_86 ?_
            have hh := go_play_pos (a := a) hP2 hK9 hB9 hn40e (by rw [← etv]; exact c33)
            rw [hh.1, hh.2]
            have etk : r3 = nI (go_tk (go_B a) P K) := etv.trans (go_tv_pos (by rw [← etv]; exact c33))
            exact ⟨etv, go_GI_new hG (hbd c33) p39.1 p39.2.1 p39.2.2.1 p39.2.2.2 (by rw [e68, hG.2.2.2.2.1, etk, nI_add, if_pos c59]) (by rw [hG.2.2.2.2.2, if_pos c59, Nat.add_zero])⟩
        · refine lv_iload_n hx hb dX0_play_36 rfl (lv_at hl 0 rfl) ?_
          refine go_mri X hK hS ((bl, wh, cn, ob, ow, ot, bt, wt, tb_3, tw_3)) hP hD dX0_play_37 ?_
          have hh := go_play_neg (a := a) hP2 hK9 hB9 hn40e (by rw [← etv]; exact c33)
          rw [hh.1, hh.2]
          exact ⟨etv, hG⟩
      · have hn40e : go_n a = 40 := (nI_eq (by omega) (by decide)).mp (hcn.symm.trans c26)
        refine lv_bipush (v := (-3)) hx hb dX0_play_29 (by decide) ?_
        refine go_mri X hK hS ((bl, wh, cn, ob, ow, ot, bt, wt, tb_3, tw_3)) hP hD dX0_play_31 ?_
        have hh := go_play_full (a := a) hP2 hK9 hB9 hn40e
        rw [hh.1, hh.2]
        exact ⟨rfl, hG⟩
    · refine lv_iload_n hx hb dX0_play_18 rfl (lv_at hl 0 rfl) ?_
      refine go_mri X hK hS ((bl, wh, cn, ob, ow, ot, bt, wt, tb_3, tw_3)) hP hD dX0_play_19 ?_
      obtain ⟨P, K, hP2, hK9, rfl, rfl, hB9⟩ := hat.2.1 c15
      have hh := go_play_tk (a := a) hP2 hK9 hB9
      rw [hh.1, hh.2]
      exact ⟨c15, hG⟩
set_option maxHeartbeats 4000000 in
set_option maxRecDepth 100000 in
theorem gX0_pass   (hG : go_GI a bl wh cn ob ow ot bt wt) (hI : go_AI a) : ∀ sz : Nat, Met l yX0_pass (ws_ yX0_pass cX0_pass 1 (some .int)) ({ frames := 1, cells := 0, slots := 0, locals := 20 } : Room) (go_mP D (go_G b cs bl wh cn ob ow ot bt wt tb tw) (go_Gt cs) sz [.ref (b 0)]) (go_mQi (fun (r : Int32) (u : Int32 × (Nat → Int64) × (Nat → Int64) × (Nat → Int32)) => match u with | (cn', ob', ow', ot') => r = go_aPass a ∧ go_GI (go_sPass a) bl wh cn' ob' ow' ot' bt wt) D (go_Gt cs) (fun u : Int32 × (Nat → Int64) × (Nat → Int64) × (Nat → Int32) => match u with | (cn', ob', ow', ot') => go_G b cs bl wh cn' ob' ow' ot' bt wt tb tw) (va_A (go_G b cs bl wh cn ob ow ot bt wt tb tw) sz)) 0 0 (va_A (go_G b cs bl wh cn ob ow ot bt wt tb tw) sz) := by
  refine go_mMet (Qf := fun A => go_mQi (fun (r : Int32) (u : Int32 × (Nat → Int64) × (Nat → Int64) × (Nat → Int32)) => match u with | (cn', ob', ow', ot') => r = go_aPass a ∧ go_GI (go_sPass a) bl wh cn' ob' ow' ot' bt wt) D (go_Gt cs) (fun u : Int32 × (Nat → Int64) × (Nat → Int64) × (Nat → Int32) => match u with | (cn', ob', ow', ot') => go_G b cs bl wh cn' ob' ow' ot' bt wt tb tw) A) (by decide) (Nat.le_of_ble_eq_true rfl) ?_
  intro p e s m below meth c ls A X hK hP hD hA hS hl
  have hl : lv_has ls 1 [(0, .ref (b 0))] := hl
  obtain ⟨hx, hb, hml, hr, hlocks, hown, hts⟩ := id X
  have hP : va_P D go_cl (go_G b cs bl wh cn ob ow ot bt wt tb tw) s.heap := hP
  have hcn := hG.2.1
  have hn40 := hI.2.1
  refine lv_aload_n hx hb dX0_pass_0 rfl (lv_at hl 0 rfl) ?_
  refine va_get (D := D) (ci := 0) (v := .int cn) (C := RX0) (T := TX0) (N := 13) hx hb hts in_X0 hown hK hP 0 rfl rfl 5 (by decide) (hts _ q42) (fun _ h9 => h9) rfl dX0_pass_1 ?_
  refine lv_bipush (v := nI 40) hx hb dX0_pass_4 (by decide) ?_
  refine lv_icmp_ne (tgt := 12) hx hb dX0_pass_6 (by decide) (fun c6 => ?_) (fun c6 => ?_)
  · have hn40e : ¬ go_n a = 40 := fun e => c6 (by rw [hcn, e])
    refine lv_aload_n hx hb dX0_pass_12 rfl (lv_at hl 0 rfl) ?_
    refine go_mcV (As := []) (rest := []) X (gX0_store  (go_n a) (by omega) hcn) (cwV 0 hts (lw_V q115 q117 qs8 q26 q118) rfl rfl rfl (by decide +kernel) ⟨Nat.le_of_ble_eq_true rfl, Nat.le_of_ble_eq_true rfl⟩) hK hP hD hA (va_recv hK hP (ci := 0) (q0 := 0) rfl rfl) rfl rfl hl.1 (Nat.le_of_ble_eq_true rfl) dX0_pass_13 ⟨Nat.zero_le _, Nat.zero_le _⟩ hS (fun u13 H1 locs p13 hP hD hS => ?_)
    obtain ⟨cn_13, ob_13, ow_13, ot_13⟩ := u13
    generalize H1 = H at hP hS ⊢
    have hP : va_P D go_cl (go_G b cs bl wh cn_13 ob_13 ow_13 ot_13 bt wt tb tw) H := hP
    have hD : va_D A (go_G b cs bl wh cn_13 ob_13 ow_13 ot_13 bt wt tb tw) := hD
    try dsimp only at p13
    refine lv_aload_n hx hb dX0_pass_16 rfl (lv_at hl 0 rfl) ?_
    refine va_get (D := D) (ci := 0) (v := .int cn_13) (C := RX0) (T := TX0) (N := 13) hx hb hts in_X0 hown hK hP 0 rfl rfl 5 (by decide) (hts _ q42) (fun _ h9 => h9) rfl dX0_pass_17 ?_
    refine go_mri X hK hS ((cn_13, ob_13, ow_13, ot_13)) hP hD dX0_pass_20 ?_
    refine ⟨?_, go_GI_pass hG hn40e p13.1 p13.2.1 p13.2.2.1 p13.2.2.2⟩
    unfold go_aPass
    rw [go_ite_f hn40e]
    exact p13.1
  · have hn40e : go_n a = 40 := (nI_eq (by omega) (by decide)).mp (hcn.symm.trans c6)
    refine lv_bipush (v := (-3)) hx hb dX0_pass_9 (by decide) ?_
    refine go_mri X hK hS ((cn, ob, ow, ot)) hP hD dX0_pass_11 ?_
    unfold go_aPass go_sPass
    rw [go_ite_t hn40e, go_ite_t hn40e]
    exact ⟨rfl, hG⟩
set_option maxHeartbeats 4000000 in
set_option maxRecDepth 100000 in
theorem gX0_undo   (hG : go_GI a bl wh cn ob ow ot bt wt) (hI : go_AI a) : ∀ sz : Nat, Met l yX0_undo (ws_ yX0_undo cX0_undo 1 (some .int)) ({ frames := 0, cells := 0, slots := 0, locals := 0 } : Room) (go_mP D (go_G b cs bl wh cn ob ow ot bt wt tb tw) (go_Gt cs) sz [.ref (b 0)]) (go_mQi (fun (r : Int32) (u : Int64 × Int64 × Int32 × Int32 × Int32) => match u with | (bl', wh', cn', bt', wt') => r = go_aUndo a ∧ go_GI (go_sUndo a) bl' wh' cn' ob ow ot bt' wt') D (go_Gt cs) (fun u : Int64 × Int64 × Int32 × Int32 × Int32 => match u with | (bl', wh', cn', bt', wt') => go_G b cs bl' wh' cn' ob ow ot bt' wt' tb tw) (va_A (go_G b cs bl wh cn ob ow ot bt wt tb tw) sz)) 0 0 (va_A (go_G b cs bl wh cn ob ow ot bt wt tb tw) sz) := by
  refine go_mMet (Qf := fun A => go_mQi (fun (r : Int32) (u : Int64 × Int64 × Int32 × Int32 × Int32) => match u with | (bl', wh', cn', bt', wt') => r = go_aUndo a ∧ go_GI (go_sUndo a) bl' wh' cn' ob ow ot bt' wt') D (go_Gt cs) (fun u : Int64 × Int64 × Int32 × Int32 × Int32 => match u with | (bl', wh', cn', bt', wt') => go_G b cs bl' wh' cn' ob ow ot bt' wt' tb tw) A) (by decide) (Nat.le_of_ble_eq_true rfl) ?_
  intro p e s m below meth c ls A X hK hP hD hA hS hl
  have hl : lv_has ls 1 [(0, .ref (b 0))] := hl
  obtain ⟨hx, hb, hml, hr, hlocks, hown, hts⟩ := id X
  have hP : va_P D go_cl (go_G b cs bl wh cn ob ow ot bt wt tb tw) s.heap := hP
  have hcn := hG.2.1
  have hn40 := hI.2.1
  refine lv_aload_n hx hb dX0_undo_0 rfl (lv_at hl 0 rfl) ?_
  refine va_get (D := D) (ci := 0) (v := .int cn) (C := RX0) (T := TX0) (N := 13) hx hb hts in_X0 hown hK hP 0 rfl rfl 5 (by decide) (hts _ q42) (fun _ h9 => h9) rfl dX0_undo_1 ?_
  refine lv_if_ne (tgt := 10) hx hb dX0_undo_4 (by decide) (fun c4 => ?_) (fun c4 => ?_)
  · have hn0 : ¬ go_n a = 0 := fun e => c4 (by rw [hcn, e]; rfl)
    refine lv_aload_n hx hb dX0_undo_10 rfl (lv_at hl 0 rfl) ?_
    refine lv_dup hx hb dX0_undo_11 rfl ?_
    refine va_get (D := D) (ci := 0) (v := .int cn) (C := RX0) (T := TX0) (N := 13) hx hb hts in_X0 hown hK hP 0 rfl rfl 5 (by decide) (hts _ q42) (fun _ h9 => h9) rfl dX0_undo_12 ?_
    refine lv_iconst (v := nI 1) hx hb dX0_undo_15 (by decide) ?_
    refine lv_isub hx hb dX0_undo_16 ?_
    refine lv_topi (fun v16 e16 => ?_)
    obtain rfl : v16 = nI (go_n a - 1) := e16.trans (by rw [hcn]; exact pk_sub (by omega))
    refine va_put (D := D) (ci := 0) (v := .int (nI (go_n a - 1))) (ty := .int) (C := RX0) (T := TX0) (N := 13) hx hb hts in_X0 tyX0 tyX0_ok nmX0 hown hK hP hD hS 0 rfl rfl 5 (by decide) (hts _ q42) (fun _ h9 => h9) rfl (by decide +kernel) rfl rfl (Nat.le_of_ble_eq_true rfl) dX0_undo_17 (fun H locs hP hD hS => ?_)
    have hP : va_P D go_cl (go_G b cs bl wh (nI (go_n a - 1)) ob ow ot bt wt tb tw) H := hP
    have hD : va_D A (go_G b cs bl wh (nI (go_n a - 1)) ob ow ot bt wt tb tw) := hD
    refine lv_aload_n hx hb dX0_undo_20 rfl (lv_at hl 0 rfl) ?_
    refine lv_aload_n hx hb dX0_undo_21 rfl (lv_at hl 0 rfl) ?_
    refine va_get (D := D) (ci := 0) (v := .ref (b 1)) (C := RX0) (T := TX0) (N := 13) hx hb hts in_X0 hown hK hP 0 rfl rfl 6 (by decide) (hts _ q43) (fun _ h9 => h9) rfl dX0_undo_22 ?_
    refine lv_aload_n hx hb dX0_undo_25 rfl (lv_at hl 0 rfl) ?_
    refine va_get (D := D) (ci := 0) (v := .int (nI (go_n a - 1))) (C := RX0) (T := TX0) (N := 13) hx hb hts in_X0 hown hK hP 0 rfl rfl 5 (by decide) (hts _ q42) (fun _ h9 => h9) rfl dX0_undo_26 ?_
    refine go_lld hx hb hK hP 1 0 rfl rfl (go_n a - 1) (rfl) (by omega) (by decide) dX0_undo_29 ?_
    refine va_put (D := D) (ci := 0) (v := .long (ob (go_n a - 1))) (ty := .long) (C := RX0) (T := TX0) (N := 13) hx hb hts in_X0 tyX0 tyX0_ok nmX0 hown hK hP hD hS 0 rfl rfl 3 (by decide) (hts _ q40) (fun _ h9 => h9) rfl (by decide +kernel) rfl rfl (Nat.le_of_ble_eq_true rfl) dX0_undo_30 (fun H locs hP hD hS => ?_)
    have hP : va_P D go_cl (go_G b cs (ob (go_n a - 1)) wh (nI (go_n a - 1)) ob ow ot bt wt tb tw) H := hP
    have hD : va_D A (go_G b cs (ob (go_n a - 1)) wh (nI (go_n a - 1)) ob ow ot bt wt tb tw) := hD
    refine lv_aload_n hx hb dX0_undo_33 rfl (lv_at hl 0 rfl) ?_
    refine lv_aload_n hx hb dX0_undo_34 rfl (lv_at hl 0 rfl) ?_
    refine va_get (D := D) (ci := 0) (v := .ref (b 2)) (C := RX0) (T := TX0) (N := 13) hx hb hts in_X0 hown hK hP 0 rfl rfl 7 (by decide) (hts _ q44) (fun _ h9 => h9) rfl dX0_undo_35 ?_
    refine lv_aload_n hx hb dX0_undo_38 rfl (lv_at hl 0 rfl) ?_
    refine va_get (D := D) (ci := 0) (v := .int (nI (go_n a - 1))) (C := RX0) (T := TX0) (N := 13) hx hb hts in_X0 hown hK hP 0 rfl rfl 5 (by decide) (hts _ q42) (fun _ h9 => h9) rfl dX0_undo_39 ?_
    refine go_lld hx hb hK hP 2 1 rfl rfl (go_n a - 1) (rfl) (by omega) (by decide) dX0_undo_42 ?_
    refine va_put (D := D) (ci := 0) (v := .long (ow (go_n a - 1))) (ty := .long) (C := RX0) (T := TX0) (N := 13) hx hb hts in_X0 tyX0 tyX0_ok nmX0 hown hK hP hD hS 0 rfl rfl 4 (by decide) (hts _ q41) (fun _ h9 => h9) rfl (by decide +kernel) rfl rfl (Nat.le_of_ble_eq_true rfl) dX0_undo_43 (fun H locs hP hD hS => ?_)
    have hP : va_P D go_cl (go_G b cs (ob (go_n a - 1)) (ow (go_n a - 1)) (nI (go_n a - 1)) ob ow ot bt wt tb tw) H := hP
    have hD : va_D A (go_G b cs (ob (go_n a - 1)) (ow (go_n a - 1)) (nI (go_n a - 1)) ob ow ot bt wt tb tw) := hD
    refine lv_aload_n hx hb dX0_undo_46 rfl (lv_at hl 0 rfl) ?_
    refine lv_aload_n hx hb dX0_undo_47 rfl (lv_at hl 0 rfl) ?_
    refine va_get (D := D) (ci := 0) (v := .ref (b 3)) (C := RX0) (T := TX0) (N := 13) hx hb hts in_X0 hown hK hP 0 rfl rfl 8 (by decide) (hts _ q45) (fun _ h9 => h9) rfl dX0_undo_48 ?_
    refine lv_aload_n hx hb dX0_undo_51 rfl (lv_at hl 0 rfl) ?_
    refine va_get (D := D) (ci := 0) (v := .int (nI (go_n a - 1))) (C := RX0) (T := TX0) (N := 13) hx hb hts in_X0 hown hK hP 0 rfl rfl 5 (by decide) (hts _ q42) (fun _ h9 => h9) rfl dX0_undo_52 ?_
    refine go_ild hx hb hK hP 3 2 rfl rfl (go_n a - 1) (rfl) (by omega) (by decide) dX0_undo_55 ?_
    refine lv_sipush (v := nI 1000) hx hb dX0_undo_56 (by decide) ?_
    refine lv_idiv hx hb dX0_undo_59 (by decide) ?_
    refine lv_topi (fun v59 e59 => ?_)
    refine va_put (D := D) (ci := 0) (v := .int v59) (ty := .int) (C := RX0) (T := TX0) (N := 13) hx hb hts in_X0 tyX0 tyX0_ok nmX0 hown hK hP hD hS 0 rfl rfl 9 (by decide) (hts _ q46) (fun _ h9 => h9) rfl (by decide +kernel) rfl rfl (Nat.le_of_ble_eq_true rfl) dX0_undo_60 (fun H locs hP hD hS => ?_)
    have hP : va_P D go_cl (go_G b cs (ob (go_n a - 1)) (ow (go_n a - 1)) (nI (go_n a - 1)) ob ow ot v59 wt tb tw) H := hP
    have hD : va_D A (go_G b cs (ob (go_n a - 1)) (ow (go_n a - 1)) (nI (go_n a - 1)) ob ow ot v59 wt tb tw) := hD
    refine lv_aload_n hx hb dX0_undo_63 rfl (lv_at hl 0 rfl) ?_
    refine lv_aload_n hx hb dX0_undo_64 rfl (lv_at hl 0 rfl) ?_
    refine va_get (D := D) (ci := 0) (v := .ref (b 3)) (C := RX0) (T := TX0) (N := 13) hx hb hts in_X0 hown hK hP 0 rfl rfl 8 (by decide) (hts _ q45) (fun _ h9 => h9) rfl dX0_undo_65 ?_
    refine lv_aload_n hx hb dX0_undo_68 rfl (lv_at hl 0 rfl) ?_
    refine va_get (D := D) (ci := 0) (v := .int (nI (go_n a - 1))) (C := RX0) (T := TX0) (N := 13) hx hb hts in_X0 hown hK hP 0 rfl rfl 5 (by decide) (hts _ q42) (fun _ h9 => h9) rfl dX0_undo_69 ?_
    refine go_ild hx hb hK hP 3 2 rfl rfl (go_n a - 1) (rfl) (by omega) (by decide) dX0_undo_72 ?_
    refine lv_sipush (v := nI 1000) hx hb dX0_undo_73 (by decide) ?_
    refine lv_irem hx hb dX0_undo_76 (by decide) ?_
    refine lv_topi (fun v76 e76 => ?_)
    refine va_put (D := D) (ci := 0) (v := .int v76) (ty := .int) (C := RX0) (T := TX0) (N := 13) hx hb hts in_X0 tyX0 tyX0_ok nmX0 hown hK hP hD hS 0 rfl rfl 10 (by decide) (hts _ q47) (fun _ h9 => h9) rfl (by decide +kernel) rfl rfl (Nat.le_of_ble_eq_true rfl) dX0_undo_77 (fun H locs hP hD hS => ?_)
    have hP : va_P D go_cl (go_G b cs (ob (go_n a - 1)) (ow (go_n a - 1)) (nI (go_n a - 1)) ob ow ot v59 v76 tb tw) H := hP
    have hD : va_D A (go_G b cs (ob (go_n a - 1)) (ow (go_n a - 1)) (nI (go_n a - 1)) ob ow ot v59 v76 tb tw) := hD
    refine lv_aload_n hx hb dX0_undo_80 rfl (lv_at hl 0 rfl) ?_
    refine va_get (D := D) (ci := 0) (v := .int (nI (go_n a - 1))) (C := RX0) (T := TX0) (N := 13) hx hb hts in_X0 hown hK hP 0 rfl rfl 5 (by decide) (hts _ q42) (fun _ h9 => h9) rfl dX0_undo_81 ?_
    refine go_mri X hK hS ((ob (go_n a - 1), ow (go_n a - 1), nI (go_n a - 1), v59, v76)) hP hD dX0_undo_84 ?_
    refine ⟨?_, ?_⟩
    · unfold go_aUndo
      rw [go_ite_f hn0]
    · rw [e59, e76]
      exact go_GI_undo hG hI hn0
  · have hn0 : go_n a = 0 := (nI_eq (a := go_n a) (b := 0) (by omega) (by decide)).mp (hcn.symm.trans c4)
    refine lv_bipush (v := (-2)) hx hb dX0_undo_7 (by decide) ?_
    refine go_mri X hK hS ((bl, wh, cn, bt, wt)) hP hD dX0_undo_9 ?_
    unfold go_aUndo go_sUndo
    rw [go_ite_t hn0, go_ite_t hn0]
    exact ⟨rfl, hG⟩
set_option maxHeartbeats 4000000 in
set_option maxRecDepth 100000 in
theorem gX0_set  (pa : Int32) (qa : Int32) (hG : go_GI a bl wh cn ob ow ot bt wt) (hI : go_AI a) : ∀ sz : Nat, Met l yX0_set (ws_ yX0_set cX0_set 6 (some .int)) ({ frames := 1, cells := 0, slots := 0, locals := 21 } : Room) (go_mP D (go_G b cs bl wh cn ob ow ot bt wt tb tw) (go_Gt cs) sz [.ref (b 0), .int pa, .int qa]) (go_mQi (fun (r : Int32) (u : Int64 × Int64 × Int32 × Int32 × Int32) => match u with | (bl', wh', cn', bt', wt') => r = go_aSet a pa qa ∧ go_GI (go_sSet a pa qa) bl' wh' cn' ob ow ot bt' wt') D (go_Gt cs) (fun u : Int64 × Int64 × Int32 × Int32 × Int32 => match u with | (bl', wh', cn', bt', wt') => go_G b cs bl' wh' cn' ob ow ot bt' wt' tb tw) (va_A (go_G b cs bl wh cn ob ow ot bt wt tb tw) sz)) 0 0 (va_A (go_G b cs bl wh cn ob ow ot bt wt tb tw) sz) := by
  refine go_mMet (Qf := fun A => go_mQi (fun (r : Int32) (u : Int64 × Int64 × Int32 × Int32 × Int32) => match u with | (bl', wh', cn', bt', wt') => r = go_aSet a pa qa ∧ go_GI (go_sSet a pa qa) bl' wh' cn' ob ow ot bt' wt') D (go_Gt cs) (fun u : Int64 × Int64 × Int32 × Int32 × Int32 => match u with | (bl', wh', cn', bt', wt') => go_G b cs bl' wh' cn' ob ow ot bt' wt' tb tw) A) (by decide) (Nat.le_of_ble_eq_true rfl) ?_
  intro p e s m below meth c ls A X hK hP hD hA hS hl
  have hl : lv_has ls 6 [(0, .ref (b 0)), (1, .int pa), (2, .int qa)] := hl
  obtain ⟨hx, hb, hml, hr, hlocks, hown, hts⟩ := id X
  have hP : va_P D go_cl (go_G b cs bl wh cn ob ow ot bt wt tb tw) s.heap := hP
  refine lv_iload_n hx hb dX0_set_0 rfl (lv_at hl 1 rfl) ?_
  refine lv_if_lt (tgt := 17) hx hb dX0_set_1 (by decide) (fun c1 => ?_) (fun c1 => ?_)
  · refine lv_iconst (v := (-1)) hx hb dX0_set_17 (by decide) ?_
    refine go_mri X hK hS ((bl, wh, cn, bt, wt)) hP hD dX0_set_18 ?_
    have hh := go_set_bad (a := a) (p := pa) (q := qa) (fun h => go_ok3_n c1 h.1)
    rw [hh.1, hh.2]
    exact ⟨rfl, hG⟩
  · refine lv_iload_n hx hb dX0_set_4 rfl (lv_at hl 1 rfl) ?_
    refine lv_iconst (v := nI 2) hx hb dX0_set_5 (by decide) ?_
    refine lv_icmp_gt (tgt := 17) hx hb dX0_set_6 (by decide) (fun c6 => ?_) (fun c6 => ?_)
    · refine lv_iconst (v := (-1)) hx hb dX0_set_17 (by decide) ?_
      refine go_mri X hK hS ((bl, wh, cn, bt, wt)) hP hD dX0_set_18 ?_
      have hh := go_set_bad (a := a) (p := pa) (q := qa) (fun h => go_ok3_n2 c6 h.1)
      rw [hh.1, hh.2]
      exact ⟨rfl, hG⟩
    · refine lv_aload_n hx hb dX0_set_9 rfl (lv_at hl 0 rfl) ?_
      refine lv_iload_n hx hb dX0_set_10 rfl (lv_at hl 2 rfl) ?_
      refine go_pcI (As := [.int qa]) (rest := []) X (gX0_badPoint qa) (cwV 1 hts (lw_V q91 q93 qs2 q26 q94) rfl rfl rfl (by decide +kernel) ⟨Nat.le_of_ble_eq_true rfl, Nat.le_of_ble_eq_true rfl⟩) hK hP (va_recv hK hP (ci := 0) (q0 := 0) rfl rfl) rfl rfl hl.1 (Nat.le_of_ble_eq_true rfl) dX0_set_11 ⟨Nat.zero_le _, Nat.zero_le _⟩ hS (fun r11 H1 locs p11 hk hS => ?_)
      have hP := hk _ hP
      clear hk
      generalize H1 = H at hP hS ⊢
      refine lv_if_eq (tgt := 19) hx hb dX0_set_14 (by decide) (fun c14 => ?_) (fun c14 => ?_)
      · obtain ⟨P, hP3, rfl⟩ := go_ok3_y c1 c6
        obtain ⟨K, hK9, rfl⟩ := (go_bz p11).1 c14
        refine lv_lconst (v := 1) hx hb dX0_set_19 (by decide) ?_
        refine lv_iload_n hx hb dX0_set_20 rfl (lv_at hl 2 rfl) ?_
        refine lv_lshl hx hb dX0_set_21 rfl ?_
        refine lv_topl (fun v21 e21 => ?_)
        refine lv_lstore_n (lv' := [(3, .long v21), (0, .ref (b 0)), (1, .int (nI P)), (2, .int (nI K))]) hx hb dX0_set_22 rfl hl (by decide) rfl (fun ls hl => ?_)
        refine lv_aload_n hx hb dX0_set_23 rfl (lv_at hl 1 rfl) ?_
        refine va_get (D := D) (ci := 0) (v := .long bl) (C := RX0) (T := TX0) (N := 13) hx hb hts in_X0 hown hK hP 0 rfl rfl 3 (by decide) (hts _ q40) (fun _ h9 => h9) rfl dX0_set_24 ?_
        refine lv_aload_n hx hb dX0_set_27 rfl (lv_at hl 1 rfl) ?_
        refine va_get (D := D) (ci := 0) (v := .long wh) (C := RX0) (T := TX0) (N := 13) hx hb hts in_X0 hown hK hP 0 rfl rfl 4 (by decide) (hts _ q41) (fun _ h9 => h9) rfl dX0_set_28 ?_
        refine lv_lor hx hb dX0_set_31 ?_
        refine lv_topl (fun v31 e31 => ?_)
        refine lv_lload_n hx hb dX0_set_32 rfl (lv_at hl 0 rfl) ?_
        refine lv_land hx hb dX0_set_33 ?_
        refine lv_topl (fun v33 e33 => ?_)
        refine lv_lconst (v := 0) hx hb dX0_set_34 (by decide) ?_
        refine W.lcmp hx hb dX0_set_35 ?_
        refine lv_if_eq (tgt := 43) hx hb dX0_set_36 (by decide) (fun c36 => ?_) (fun c36 => ?_)
        · have c36 : v33 = 0 := go_cmp0.mp c36
          have hB9 : go_B a K = 2 := (go_stone hG.1 hI.1 hK9).mp (by rw [← e21, ← e31, ← e33]; exact c36)
          refine lv_iconst (v := nI 0) hx hb dX0_set_43 (by decide) ?_
          refine lv_istore (lv' := [(5, .int (nI 0)), (3, .long v21), (0, .ref (b 0)), (1, .int (nI P)), (2, .int (nI K))]) hx hb dX0_set_44 hl (by decide) rfl (fun ls hl => ?_)
          refine lv_iload hx hb dX0_set_46 (lv_at hl 0 rfl) ?_
          refine lv_iload_n hx hb dX0_set_48 rfl (lv_at hl 3 rfl) ?_
          refine lv_iconst (v := nI 2) hx hb dX0_set_49 (by decide) ?_
          refine lv_icmp_eq (tgt := 57) hx hb dX0_set_50 (by decide) (fun c50 => ?_) (fun c50 => ?_)
          · have c50 : P = 2 := (nI_eq (a := P) (b := 2) (by omega) (by omega)).mp c50
            refine lv_iconst (v := nI 0) hx hb dX0_set_57 (by decide) ?_
            refine lv_icmp_ne (tgt := 64) hx hb dX0_set_58 (by decide) (fun c58 => ?_) (fun c58 => ?_)
            · have c58 : ¬ 0 = 0 := fun h => c58 ((nI_eq (a := 0) (b := 0) (by omega) (by omega)).mpr h)
              exact absurd rfl c58
            · have c58 : 0 = 0 := (nI_eq (a := 0) (b := 0) (by omega) (by omega)).mp c58
              refine lv_bipush (v := (-2)) hx hb dX0_set_61 (by decide) ?_
              refine go_mri X hK hS ((bl, wh, cn, bt, wt)) hP hD dX0_set_63 ?_
              have hh := (go_set_ok (a := a) hP3 hK9).1 (fun h => by omega)
              rw [hh.1, hh.2]
              exact ⟨rfl, hG⟩
          · have c50 : ¬ P = 2 := fun h => c50 ((nI_eq (a := P) (b := 2) (by omega) (by omega)).mpr h)
            refine lv_iconst (v := nI 1) hx hb dX0_set_53 (by decide) ?_
            refine lv_goto (tgt := 58) hx hb dX0_set_54 (by decide) ?_
            refine lv_icmp_ne (tgt := 64) hx hb dX0_set_58 (by decide) (fun c58 => ?_) (fun c58 => ?_)
            · have c58 : ¬ 0 = 1 := fun h => c58 ((nI_eq (a := 0) (b := 1) (by omega) (by omega)).mpr h)
              refine lv_iload_n hx hb dX0_set_64 rfl (lv_at hl 3 rfl) ?_
              refine lv_if_ne (tgt := 81) hx hb dX0_set_65 (by decide) (fun c65 => ?_) (fun c65 => ?_)
              · have c65 : ¬ P = 0 := fun h => c65 ((nI_eq (a := P) (b := 0) (by omega) (by omega)).mpr h)
                refine lv_iload_n hx hb dX0_set_81 rfl (lv_at hl 3 rfl) ?_
                refine lv_iconst (v := nI 1) hx hb dX0_set_82 (by decide) ?_
                refine lv_icmp_ne (tgt := 99) hx hb dX0_set_83 (by decide) (fun c83 => ?_) (fun c83 => ?_)
                · have c83 : ¬ P = 1 := fun h => c83 ((nI_eq (a := P) (b := 1) (by omega) (by omega)).mpr h)
                  omega
                · have c83 : P = 1 := (nI_eq (a := P) (b := 1) (by omega) (by omega)).mp c83
                  refine lv_aload_n hx hb dX0_set_86 rfl (lv_at hl 2 rfl) ?_
                  refine lv_aload_n hx hb dX0_set_87 rfl (lv_at hl 2 rfl) ?_
                  refine va_get (D := D) (ci := 0) (v := .long wh) (C := RX0) (T := TX0) (N := 13) hx hb hts in_X0 hown hK hP 0 rfl rfl 4 (by decide) (hts _ q41) (fun _ h9 => h9) rfl dX0_set_88 ?_
                  refine lv_lload_n hx hb dX0_set_91 rfl (lv_at hl 1 rfl) ?_
                  refine lv_lor hx hb dX0_set_92 ?_
                  refine lv_topl (fun v92 e92 => ?_)
                  refine va_put (D := D) (ci := 0) (v := .long v92) (ty := .long) (C := RX0) (T := TX0) (N := 13) hx hb hts in_X0 tyX0 tyX0_ok nmX0 hown hK hP hD hS 0 rfl rfl 4 (by decide) (hts _ q41) (fun _ h9 => h9) rfl (by decide +kernel) rfl rfl (Nat.le_of_ble_eq_true rfl) dX0_set_93 (fun H locs hP hD hS => ?_)
                  have hP : va_P D go_cl (go_G b cs bl v92 cn ob ow ot bt wt tb tw) H := hP
                  have hD : va_D A (go_G b cs bl v92 cn ob ow ot bt wt tb tw) := hD
                  refine lv_goto (tgt := 127) hx hb dX0_set_96 (by decide) ?_
                  refine lv_aload_n hx hb dX0_set_127 rfl (lv_at hl 2 rfl) ?_
                  refine lv_iconst (v := nI 0) hx hb dX0_set_128 (by decide) ?_
                  refine va_put (D := D) (ci := 0) (v := .int (nI 0)) (ty := .int) (C := RX0) (T := TX0) (N := 13) hx hb hts in_X0 tyX0 tyX0_ok nmX0 hown hK hP hD hS 0 rfl rfl 5 (by decide) (hts _ q42) (fun _ h9 => h9) rfl (by decide +kernel) rfl rfl (Nat.le_of_ble_eq_true rfl) dX0_set_129 (fun H locs hP hD hS => ?_)
                  have hP : va_P D go_cl (go_G b cs bl v92 (nI 0) ob ow ot bt wt tb tw) H := hP
                  have hD : va_D A (go_G b cs bl v92 (nI 0) ob ow ot bt wt tb tw) := hD
                  refine lv_aload_n hx hb dX0_set_132 rfl (lv_at hl 2 rfl) ?_
                  refine lv_iconst (v := nI 0) hx hb dX0_set_133 (by decide) ?_
                  refine va_put (D := D) (ci := 0) (v := .int (nI 0)) (ty := .int) (C := RX0) (T := TX0) (N := 13) hx hb hts in_X0 tyX0 tyX0_ok nmX0 hown hK hP hD hS 0 rfl rfl 9 (by decide) (hts _ q46) (fun _ h9 => h9) rfl (by decide +kernel) rfl rfl (Nat.le_of_ble_eq_true rfl) dX0_set_134 (fun H locs hP hD hS => ?_)
                  have hP : va_P D go_cl (go_G b cs bl v92 (nI 0) ob ow ot (nI 0) wt tb tw) H := hP
                  have hD : va_D A (go_G b cs bl v92 (nI 0) ob ow ot (nI 0) wt tb tw) := hD
                  refine lv_aload_n hx hb dX0_set_137 rfl (lv_at hl 2 rfl) ?_
                  refine lv_iconst (v := nI 0) hx hb dX0_set_138 (by decide) ?_
                  refine va_put (D := D) (ci := 0) (v := .int (nI 0)) (ty := .int) (C := RX0) (T := TX0) (N := 13) hx hb hts in_X0 tyX0 tyX0_ok nmX0 hown hK hP hD hS 0 rfl rfl 10 (by decide) (hts _ q47) (fun _ h9 => h9) rfl (by decide +kernel) rfl rfl (Nat.le_of_ble_eq_true rfl) dX0_set_139 (fun H locs hP hD hS => ?_)
                  have hP : va_P D go_cl (go_G b cs bl v92 (nI 0) ob ow ot (nI 0) (nI 0) tb tw) H := hP
                  have hD : va_D A (go_G b cs bl v92 (nI 0) ob ow ot (nI 0) (nI 0) tb tw) := hD
                  refine lv_iconst (v := nI 0) hx hb dX0_set_142 (by decide) ?_
                  refine go_mri X hK hS ((bl, v92, nI 0, nI 0, nI 0)) hP hD dX0_set_143 ?_
                  have hif : go_B a K = 2 ↔ P < 2 := by omega
                  refine ⟨((go_set_ok (a := a) hP3 hK9).2 hif).1.symm, ?_⟩
                  have hbd : go_bd (go_put (go_B a) K P) bl v92 := by
                    subst c83
                    rw [e92, e21]
                    exact go_bd_put1 hG.1 hK9 hB9
                  exact go_GI_set hP3 hK9 hif hbd
              · have c65 : P = 0 := (nI_eq (a := P) (b := 0) (by omega) (by omega)).mp c65
                refine lv_aload_n hx hb dX0_set_68 rfl (lv_at hl 2 rfl) ?_
                refine lv_aload_n hx hb dX0_set_69 rfl (lv_at hl 2 rfl) ?_
                refine va_get (D := D) (ci := 0) (v := .long bl) (C := RX0) (T := TX0) (N := 13) hx hb hts in_X0 hown hK hP 0 rfl rfl 3 (by decide) (hts _ q40) (fun _ h9 => h9) rfl dX0_set_70 ?_
                refine lv_lload_n hx hb dX0_set_73 rfl (lv_at hl 1 rfl) ?_
                refine lv_lor hx hb dX0_set_74 ?_
                refine lv_topl (fun v74 e74 => ?_)
                refine va_put (D := D) (ci := 0) (v := .long v74) (ty := .long) (C := RX0) (T := TX0) (N := 13) hx hb hts in_X0 tyX0 tyX0_ok nmX0 hown hK hP hD hS 0 rfl rfl 3 (by decide) (hts _ q40) (fun _ h9 => h9) rfl (by decide +kernel) rfl rfl (Nat.le_of_ble_eq_true rfl) dX0_set_75 (fun H locs hP hD hS => ?_)
                have hP : va_P D go_cl (go_G b cs v74 wh cn ob ow ot bt wt tb tw) H := hP
                have hD : va_D A (go_G b cs v74 wh cn ob ow ot bt wt tb tw) := hD
                refine lv_goto (tgt := 127) hx hb dX0_set_78 (by decide) ?_
                refine lv_aload_n hx hb dX0_set_127 rfl (lv_at hl 2 rfl) ?_
                refine lv_iconst (v := nI 0) hx hb dX0_set_128 (by decide) ?_
                refine va_put (D := D) (ci := 0) (v := .int (nI 0)) (ty := .int) (C := RX0) (T := TX0) (N := 13) hx hb hts in_X0 tyX0 tyX0_ok nmX0 hown hK hP hD hS 0 rfl rfl 5 (by decide) (hts _ q42) (fun _ h9 => h9) rfl (by decide +kernel) rfl rfl (Nat.le_of_ble_eq_true rfl) dX0_set_129 (fun H locs hP hD hS => ?_)
                have hP : va_P D go_cl (go_G b cs v74 wh (nI 0) ob ow ot bt wt tb tw) H := hP
                have hD : va_D A (go_G b cs v74 wh (nI 0) ob ow ot bt wt tb tw) := hD
                refine lv_aload_n hx hb dX0_set_132 rfl (lv_at hl 2 rfl) ?_
                refine lv_iconst (v := nI 0) hx hb dX0_set_133 (by decide) ?_
                refine va_put (D := D) (ci := 0) (v := .int (nI 0)) (ty := .int) (C := RX0) (T := TX0) (N := 13) hx hb hts in_X0 tyX0 tyX0_ok nmX0 hown hK hP hD hS 0 rfl rfl 9 (by decide) (hts _ q46) (fun _ h9 => h9) rfl (by decide +kernel) rfl rfl (Nat.le_of_ble_eq_true rfl) dX0_set_134 (fun H locs hP hD hS => ?_)
                have hP : va_P D go_cl (go_G b cs v74 wh (nI 0) ob ow ot (nI 0) wt tb tw) H := hP
                have hD : va_D A (go_G b cs v74 wh (nI 0) ob ow ot (nI 0) wt tb tw) := hD
                refine lv_aload_n hx hb dX0_set_137 rfl (lv_at hl 2 rfl) ?_
                refine lv_iconst (v := nI 0) hx hb dX0_set_138 (by decide) ?_
                refine va_put (D := D) (ci := 0) (v := .int (nI 0)) (ty := .int) (C := RX0) (T := TX0) (N := 13) hx hb hts in_X0 tyX0 tyX0_ok nmX0 hown hK hP hD hS 0 rfl rfl 10 (by decide) (hts _ q47) (fun _ h9 => h9) rfl (by decide +kernel) rfl rfl (Nat.le_of_ble_eq_true rfl) dX0_set_139 (fun H locs hP hD hS => ?_)
                have hP : va_P D go_cl (go_G b cs v74 wh (nI 0) ob ow ot (nI 0) (nI 0) tb tw) H := hP
                have hD : va_D A (go_G b cs v74 wh (nI 0) ob ow ot (nI 0) (nI 0) tb tw) := hD
                refine lv_iconst (v := nI 0) hx hb dX0_set_142 (by decide) ?_
                refine go_mri X hK hS ((v74, wh, nI 0, nI 0, nI 0)) hP hD dX0_set_143 ?_
                have hif : go_B a K = 2 ↔ P < 2 := by omega
                refine ⟨((go_set_ok (a := a) hP3 hK9).2 hif).1.symm, ?_⟩
                have hbd : go_bd (go_put (go_B a) K P) v74 wh := by
                  subst c65
                  rw [e74, e21]
                  exact go_bd_put0 hG.1 hK9 hB9
                exact go_GI_set hP3 hK9 hif hbd
            · have c58 : 0 = 1 := (nI_eq (a := 0) (b := 1) (by omega) (by omega)).mp c58
              exact absurd c58 (by decide)
        · have c36 : ¬ v33 = 0 := fun h => c36 (go_cmp0.mpr h)
          have hB9 : ¬ go_B a K = 2 := fun e => c36 (by rw [e33, e31, e21]; exact (go_stone hG.1 hI.1 hK9).mpr e)
          refine lv_iconst (v := nI 1) hx hb dX0_set_39 (by decide) ?_
          refine lv_goto (tgt := 44) hx hb dX0_set_40 (by decide) ?_
          refine lv_istore (lv' := [(5, .int (nI 1)), (3, .long v21), (0, .ref (b 0)), (1, .int (nI P)), (2, .int (nI K))]) hx hb dX0_set_44 hl (by decide) rfl (fun ls hl => ?_)
          refine lv_iload hx hb dX0_set_46 (lv_at hl 0 rfl) ?_
          refine lv_iload_n hx hb dX0_set_48 rfl (lv_at hl 3 rfl) ?_
          refine lv_iconst (v := nI 2) hx hb dX0_set_49 (by decide) ?_
          refine lv_icmp_eq (tgt := 57) hx hb dX0_set_50 (by decide) (fun c50 => ?_) (fun c50 => ?_)
          · have c50 : P = 2 := (nI_eq (a := P) (b := 2) (by omega) (by omega)).mp c50
            refine lv_iconst (v := nI 0) hx hb dX0_set_57 (by decide) ?_
            refine lv_icmp_ne (tgt := 64) hx hb dX0_set_58 (by decide) (fun c58 => ?_) (fun c58 => ?_)
            · have c58 : ¬ 1 = 0 := fun h => c58 ((nI_eq (a := 1) (b := 0) (by omega) (by omega)).mpr h)
              refine lv_iload_n hx hb dX0_set_64 rfl (lv_at hl 3 rfl) ?_
              refine lv_if_ne (tgt := 81) hx hb dX0_set_65 (by decide) (fun c65 => ?_) (fun c65 => ?_)
              · have c65 : ¬ P = 0 := fun h => c65 ((nI_eq (a := P) (b := 0) (by omega) (by omega)).mpr h)
                refine lv_iload_n hx hb dX0_set_81 rfl (lv_at hl 3 rfl) ?_
                refine lv_iconst (v := nI 1) hx hb dX0_set_82 (by decide) ?_
                refine lv_icmp_ne (tgt := 99) hx hb dX0_set_83 (by decide) (fun c83 => ?_) (fun c83 => ?_)
                · have c83 : ¬ P = 1 := fun h => c83 ((nI_eq (a := P) (b := 1) (by omega) (by omega)).mpr h)
                  refine lv_aload_n hx hb dX0_set_99 rfl (lv_at hl 2 rfl) ?_
                  refine lv_aload_n hx hb dX0_set_100 rfl (lv_at hl 2 rfl) ?_
                  refine va_get (D := D) (ci := 0) (v := .long bl) (C := RX0) (T := TX0) (N := 13) hx hb hts in_X0 hown hK hP 0 rfl rfl 3 (by decide) (hts _ q40) (fun _ h9 => h9) rfl dX0_set_101 ?_
                  refine lv_lload_n hx hb dX0_set_104 rfl (lv_at hl 1 rfl) ?_
                  refine lv_ldc2 hx hb hown (hts _ q36) dX0_set_105 ?_
                  refine lv_lxor hx hb dX0_set_108 ?_
                  refine lv_topl (fun v108 e108 => ?_)
                  refine lv_land hx hb dX0_set_109 ?_
                  refine lv_topl (fun v109 e109 => ?_)
                  refine va_put (D := D) (ci := 0) (v := .long v109) (ty := .long) (C := RX0) (T := TX0) (N := 13) hx hb hts in_X0 tyX0 tyX0_ok nmX0 hown hK hP hD hS 0 rfl rfl 3 (by decide) (hts _ q40) (fun _ h9 => h9) rfl (by decide +kernel) rfl rfl (Nat.le_of_ble_eq_true rfl) dX0_set_110 (fun H locs hP hD hS => ?_)
                  have hP : va_P D go_cl (go_G b cs v109 wh cn ob ow ot bt wt tb tw) H := hP
                  have hD : va_D A (go_G b cs v109 wh cn ob ow ot bt wt tb tw) := hD
                  refine lv_aload_n hx hb dX0_set_113 rfl (lv_at hl 2 rfl) ?_
                  refine lv_aload_n hx hb dX0_set_114 rfl (lv_at hl 2 rfl) ?_
                  refine va_get (D := D) (ci := 0) (v := .long wh) (C := RX0) (T := TX0) (N := 13) hx hb hts in_X0 hown hK hP 0 rfl rfl 4 (by decide) (hts _ q41) (fun _ h9 => h9) rfl dX0_set_115 ?_
                  refine lv_lload_n hx hb dX0_set_118 rfl (lv_at hl 1 rfl) ?_
                  refine lv_ldc2 hx hb hown (hts _ q36) dX0_set_119 ?_
                  refine lv_lxor hx hb dX0_set_122 ?_
                  refine lv_topl (fun v122 e122 => ?_)
                  refine lv_land hx hb dX0_set_123 ?_
                  refine lv_topl (fun v123 e123 => ?_)
                  refine va_put (D := D) (ci := 0) (v := .long v123) (ty := .long) (C := RX0) (T := TX0) (N := 13) hx hb hts in_X0 tyX0 tyX0_ok nmX0 hown hK hP hD hS 0 rfl rfl 4 (by decide) (hts _ q41) (fun _ h9 => h9) rfl (by decide +kernel) rfl rfl (Nat.le_of_ble_eq_true rfl) dX0_set_124 (fun H locs hP hD hS => ?_)
                  have hP : va_P D go_cl (go_G b cs v109 v123 cn ob ow ot bt wt tb tw) H := hP
                  have hD : va_D A (go_G b cs v109 v123 cn ob ow ot bt wt tb tw) := hD
                  refine lv_aload_n hx hb dX0_set_127 rfl (lv_at hl 2 rfl) ?_
                  refine lv_iconst (v := nI 0) hx hb dX0_set_128 (by decide) ?_
                  refine va_put (D := D) (ci := 0) (v := .int (nI 0)) (ty := .int) (C := RX0) (T := TX0) (N := 13) hx hb hts in_X0 tyX0 tyX0_ok nmX0 hown hK hP hD hS 0 rfl rfl 5 (by decide) (hts _ q42) (fun _ h9 => h9) rfl (by decide +kernel) rfl rfl (Nat.le_of_ble_eq_true rfl) dX0_set_129 (fun H locs hP hD hS => ?_)
                  have hP : va_P D go_cl (go_G b cs v109 v123 (nI 0) ob ow ot bt wt tb tw) H := hP
                  have hD : va_D A (go_G b cs v109 v123 (nI 0) ob ow ot bt wt tb tw) := hD
                  refine lv_aload_n hx hb dX0_set_132 rfl (lv_at hl 2 rfl) ?_
                  refine lv_iconst (v := nI 0) hx hb dX0_set_133 (by decide) ?_
                  refine va_put (D := D) (ci := 0) (v := .int (nI 0)) (ty := .int) (C := RX0) (T := TX0) (N := 13) hx hb hts in_X0 tyX0 tyX0_ok nmX0 hown hK hP hD hS 0 rfl rfl 9 (by decide) (hts _ q46) (fun _ h9 => h9) rfl (by decide +kernel) rfl rfl (Nat.le_of_ble_eq_true rfl) dX0_set_134 (fun H locs hP hD hS => ?_)
                  have hP : va_P D go_cl (go_G b cs v109 v123 (nI 0) ob ow ot (nI 0) wt tb tw) H := hP
                  have hD : va_D A (go_G b cs v109 v123 (nI 0) ob ow ot (nI 0) wt tb tw) := hD
                  refine lv_aload_n hx hb dX0_set_137 rfl (lv_at hl 2 rfl) ?_
                  refine lv_iconst (v := nI 0) hx hb dX0_set_138 (by decide) ?_
                  refine va_put (D := D) (ci := 0) (v := .int (nI 0)) (ty := .int) (C := RX0) (T := TX0) (N := 13) hx hb hts in_X0 tyX0 tyX0_ok nmX0 hown hK hP hD hS 0 rfl rfl 10 (by decide) (hts _ q47) (fun _ h9 => h9) rfl (by decide +kernel) rfl rfl (Nat.le_of_ble_eq_true rfl) dX0_set_139 (fun H locs hP hD hS => ?_)
                  have hP : va_P D go_cl (go_G b cs v109 v123 (nI 0) ob ow ot (nI 0) (nI 0) tb tw) H := hP
                  have hD : va_D A (go_G b cs v109 v123 (nI 0) ob ow ot (nI 0) (nI 0) tb tw) := hD
                  refine lv_iconst (v := nI 0) hx hb dX0_set_142 (by decide) ?_
                  refine go_mri X hK hS ((v109, v123, nI 0, nI 0, nI 0)) hP hD dX0_set_143 ?_
                  have hif : go_B a K = 2 ↔ P < 2 := by omega
                  refine ⟨((go_set_ok (a := a) hP3 hK9).2 hif).1.symm, ?_⟩
                  have hbd : go_bd (go_put (go_B a) K P) v109 v123 := by
                    subst c50
                    rw [e109, e108, e123, e122, e21]
                    exact go_bd_put2 hG.1 hK9
                  exact go_GI_set hP3 hK9 hif hbd
                · have c83 : P = 1 := (nI_eq (a := P) (b := 1) (by omega) (by omega)).mp c83
                  omega
              · have c65 : P = 0 := (nI_eq (a := P) (b := 0) (by omega) (by omega)).mp c65
                omega
            · have c58 : 1 = 0 := (nI_eq (a := 1) (b := 0) (by omega) (by omega)).mp c58
              exact absurd c58 (by decide)
          · have c50 : ¬ P = 2 := fun h => c50 ((nI_eq (a := P) (b := 2) (by omega) (by omega)).mpr h)
            refine lv_iconst (v := nI 1) hx hb dX0_set_53 (by decide) ?_
            refine lv_goto (tgt := 58) hx hb dX0_set_54 (by decide) ?_
            refine lv_icmp_ne (tgt := 64) hx hb dX0_set_58 (by decide) (fun c58 => ?_) (fun c58 => ?_)
            · have c58 : ¬ 1 = 1 := fun h => c58 ((nI_eq (a := 1) (b := 1) (by omega) (by omega)).mpr h)
              exact absurd rfl c58
            · have c58 : 1 = 1 := (nI_eq (a := 1) (b := 1) (by omega) (by omega)).mp c58
              refine lv_bipush (v := (-2)) hx hb dX0_set_61 (by decide) ?_
              refine go_mri X hK hS ((bl, wh, cn, bt, wt)) hP hD dX0_set_63 ?_
              have hh := (go_set_ok (a := a) hP3 hK9).1 (fun h => by omega)
              rw [hh.1, hh.2]
              exact ⟨rfl, hG⟩
      · refine lv_iconst (v := (-1)) hx hb dX0_set_17 (by decide) ?_
        refine go_mri X hK hS ((bl, wh, cn, bt, wt)) hP hD dX0_set_18 ?_
        have hh := go_set_bad (a := a) (p := pa) (q := qa) (fun h => (go_bz p11).2 c14 h.2)
        rw [hh.1, hh.2]
        exact ⟨rfl, hG⟩
set_option maxHeartbeats 4000000 in
set_option maxRecDepth 100000 in
theorem gX0_trial  (pa : Int32) (qa : Int32) (hG : go_GI a bl wh cn ob ow ot bt wt) (hI : go_AI a) : ∀ sz : Nat, Met l yX0_trial (ws_ yX0_trial cX0_trial 3 (some .int)) ({ frames := 4, cells := 0, slots := 0, locals := 122 } : Room) (go_mP D (go_G b cs bl wh cn ob ow ot bt wt tb tw) (go_Gt cs) sz [.ref (b 0), .int pa, .int qa]) (go_mQi (fun (r : Int32) (u : Int64 × Int64) => match u with | (tb', tw') => r = go_att (go_B a) (go_n a) (go_HB a) pa qa) D (go_Gt cs) (fun u : Int64 × Int64 => match u with | (tb', tw') => go_G b cs bl wh cn ob ow ot bt wt tb' tw') (va_A (go_G b cs bl wh cn ob ow ot bt wt tb tw) sz)) 0 0 (va_A (go_G b cs bl wh cn ob ow ot bt wt tb tw) sz) := by
  refine go_mMet (Qf := fun A => go_mQi (fun (r : Int32) (u : Int64 × Int64) => match u with | (tb', tw') => r = go_att (go_B a) (go_n a) (go_HB a) pa qa) D (go_Gt cs) (fun u : Int64 × Int64 => match u with | (tb', tw') => go_G b cs bl wh cn ob ow ot bt wt tb' tw') A) (by decide) (Nat.le_of_ble_eq_true rfl) ?_
  intro p e s m below meth c ls A X hK hP hD hA hS hl
  have hl : lv_has ls 3 [(0, .ref (b 0)), (1, .int pa), (2, .int qa)] := hl
  obtain ⟨hx, hb, hml, hr, hlocks, hown, hts⟩ := id X
  have hP : va_P D go_cl (go_G b cs bl wh cn ob ow ot bt wt tb tw) s.heap := hP
  refine lv_aload_n hx hb dX0_trial_0 rfl (lv_at hl 0 rfl) ?_
  refine lv_iload_n hx hb dX0_trial_1 rfl (lv_at hl 1 rfl) ?_
  refine lv_iload_n hx hb dX0_trial_2 rfl (lv_at hl 2 rfl) ?_
  refine go_mcI (As := [.int pa, .int qa]) (rest := []) X (gX0_attempt pa qa hG hI) (cwV 2 hts (lw_V q83 q85 qs0 q26 q86) rfl rfl rfl (by decide +kernel) ⟨Nat.le_of_ble_eq_true rfl, Nat.le_of_ble_eq_true rfl⟩) hK hP hD hA (va_recv hK hP (ci := 0) (q0 := 0) rfl rfl) rfl rfl hl.1 (Nat.le_of_ble_eq_true rfl) dX0_trial_3 ⟨Nat.zero_le _, Nat.zero_le _⟩ hS (fun r3 u3 H1 locs p3 hP hD hS hk => ?_)
  clear hk
  obtain ⟨tb_3, tw_3⟩ := u3
  generalize H1 = H at hP hS ⊢
  have hP : va_P D go_cl (go_G b cs bl wh cn ob ow ot bt wt tb_3 tw_3) H := hP
  have hD : va_D A (go_G b cs bl wh cn ob ow ot bt wt tb_3 tw_3) := hD
  try dsimp only at p3
  refine go_mri X hK hS ((tb_3, tw_3)) hP hD dX0_trial_6 ?_
  exact p3.1
set_option maxHeartbeats 4000000 in
set_option maxRecDepth 100000 in
theorem gX0_moves  (pa : Int32) (hG : go_GI a bl wh cn ob ow ot bt wt) (hI : go_AI a) : ∀ sz : Nat, Met l yX0_moves (ws_ yX0_moves cX0_moves 5 (some .int)) ({ frames := 4, cells := 0, slots := 0, locals := 122 } : Room) (go_mP D (go_G b cs bl wh cn ob ow ot bt wt tb tw) (go_Gt cs) sz [.ref (b 0), .int pa]) (go_mQi (fun (r : Int32) (u : Int64 × Int64) => match u with | (tb', tw') => r = go_aMov (go_B a) (go_n a) (go_HB a) pa) D (go_Gt cs) (fun u : Int64 × Int64 => match u with | (tb', tw') => go_G b cs bl wh cn ob ow ot bt wt tb' tw') (va_A (go_G b cs bl wh cn ob ow ot bt wt tb tw) sz)) 0 0 (va_A (go_G b cs bl wh cn ob ow ot bt wt tb tw) sz) := by
  refine go_mMet (Qf := fun A => go_mQi (fun (r : Int32) (u : Int64 × Int64) => match u with | (tb', tw') => r = go_aMov (go_B a) (go_n a) (go_HB a) pa) D (go_Gt cs) (fun u : Int64 × Int64 => match u with | (tb', tw') => go_G b cs bl wh cn ob ow ot bt wt tb' tw') A) (by decide) (Nat.le_of_ble_eq_true rfl) ?_
  intro p e s m below meth c ls A X hK hP hD hA hS hl
  have hl : lv_has ls 5 [(0, .ref (b 0)), (1, .int pa)] := hl
  obtain ⟨hx, hb, hml, hr, hlocks, hown, hts⟩ := id X
  have hP : va_P D go_cl (go_G b cs bl wh cn ob ow ot bt wt tb tw) s.heap := hP
  refine lv_aload_n hx hb dX0_moves_0 rfl (lv_at hl 0 rfl) ?_
  refine lv_iload_n hx hb dX0_moves_1 rfl (lv_at hl 1 rfl) ?_
  refine go_pcI (As := [.int pa]) (rest := []) X (gX0_badPlayer pa) (cwV 1 hts (lw_V q87 q89 qs1 q26 q90) rfl rfl rfl (by decide +kernel) ⟨Nat.le_of_ble_eq_true rfl, Nat.le_of_ble_eq_true rfl⟩) hK hP (va_recv hK hP (ci := 0) (q0 := 0) rfl rfl) rfl rfl hl.1 (Nat.le_of_ble_eq_true rfl) dX0_moves_2 ⟨Nat.zero_le _, Nat.zero_le _⟩ hS (fun r2 H1 locs p2 hk hS => ?_)
  have hP := hk _ hP
  clear hk
  generalize H1 = H at hP hS ⊢
  refine lv_if_eq (tgt := 10) hx hb dX0_moves_5 (by decide) (fun c5 => ?_) (fun c5 => ?_)
  · have hp := (go_bz p2).1 c5
    refine lv_iconst (v := nI 0) hx hb dX0_moves_10 (by decide) ?_
    refine lv_istore_n (lv' := [(2, .int (nI 0)), (0, .ref (b 0)), (1, .int pa)]) hx hb dX0_moves_11 rfl hl (by decide) rfl (fun ls hl => ?_)
    refine lv_iconst (v := nI 0) hx hb dX0_moves_12 (by decide) ?_
    refine lv_istore_n (lv' := [(3, .int (nI 0)), (2, .int (nI 0)), (0, .ref (b 0)), (1, .int pa)]) hx hb dX0_moves_13 rfl hl (by decide) rfl (fun ls hl => ?_)
    have lp14 : ∀ (n : Nat) (k ct : Nat) (xtb : Int64) (xtw : Int64), 50 ≤ k + n → k ≤ 49 → ct = go_cnt (fun j => 0 ≤ go_att (go_B a) (go_n a) (go_HB a) pa (nI j)) k → ∀ (H : Heap) (locs : List Loc) (ls : Array Slot), va_P D go_cl (go_G b cs bl wh cn ob ow ot bt wt xtb xtw) H → va_D A (go_G b cs bl wh cn ob ow ot bt wt xtb xtw) → va_S A s.heap H locs → lv_has ls 5 [(0, .ref (b 0)), (1, .int pa), (2, .int (nI ct)), (3, .int (nI k))] → W p l e ({ frames := 4, cells := 0, slots := 0, locals := 122 } : Room) s m ([.ref (b 0), .int pa] : List Value).toArray below meth c H locs 0 0 (MQ below (go_mQi (fun (r : Int32) (u : Int64 × Int64) => match u with | (tb', tw') => r = go_aMov (go_B a) (go_n a) (go_HB a) pa) D (go_Gt cs) (fun u : Int64 × Int64 => match u with | (tb', tw') => go_G b cs bl wh cn ob ow ot bt wt tb' tw') A) ([.ref (b 0), .int pa] : List Value).toArray s 0 0 A) (F0 m 14 ls []) := by
      intro n
      induction n with
      | zero =>
        intro k ct xtb xtw hn hk hct
        exact absurd hn (by omega)
      | succ n ih =>
        intro k ct xtb xtw hn hk hct H locs ls hP hD hS hl
        refine lv_iload_n hx hb dX0_moves_14 rfl (lv_at hl 3 rfl) ?_
        refine lv_bipush (v := nI 49) hx hb dX0_moves_15 (by decide) ?_
        refine lv_icmp_ge (tgt := 42) hx hb dX0_moves_17 (by decide) (fun c17 => ?_) (fun c17 => ?_)
        · have c17 : 49 ≤ k := (nI_leI (a := 49) (b := k) (by omega) (by omega)).mp c17
          refine lv_iload_n hx hb dX0_moves_42 rfl (lv_at hl 2 rfl) ?_
          refine go_mri X hK hS ((xtb, xtw)) hP hD dX0_moves_43 ?_
          rw [hct, show k = 49 by omega]
          unfold go_aMov
          exact (go_ite_t hp).symm
        · have c17 : ¬ 49 ≤ k := fun h => c17 ((nI_leI (a := 49) (b := k) (by omega) (by omega)).mpr h)
          have hct49 := go_cnt_le (fun j => 0 ≤ go_att (go_B a) (go_n a) (go_HB a) pa (nI j)) k
          refine lv_aload_n hx hb dX0_moves_20 rfl (lv_at hl 0 rfl) ?_
          refine lv_iload_n hx hb dX0_moves_21 rfl (lv_at hl 1 rfl) ?_
          refine lv_iload_n hx hb dX0_moves_22 rfl (lv_at hl 3 rfl) ?_
          refine go_mcI (As := [.int pa, .int (nI k)]) (rest := []) X (gX0_attempt pa (nI k) hG hI) (cwV 2 hts (lw_V q83 q85 qs0 q26 q86) rfl rfl rfl (by decide +kernel) ⟨Nat.le_of_ble_eq_true rfl, Nat.le_of_ble_eq_true rfl⟩) hK hP hD hA (va_recv hK hP (ci := 0) (q0 := 0) rfl rfl) rfl rfl hl.1 (Nat.le_of_ble_eq_true rfl) dX0_moves_23 ⟨Nat.zero_le _, Nat.zero_le _⟩ hS (fun r23 u23 H1 locs p23 hP hD hS hk => ?_)
          clear hk
          obtain ⟨tb_23, tw_23⟩ := u23
          generalize H1 = H at hP hS ⊢
          have hP : va_P D go_cl (go_G b cs bl wh cn ob ow ot bt wt tb_23 tw_23) H := hP
          have hD : va_D A (go_G b cs bl wh cn ob ow ot bt wt tb_23 tw_23) := hD
          try dsimp only at p23
          refine lv_istore (lv' := [(4, .int r23), (0, .ref (b 0)), (1, .int pa), (2, .int (nI ct)), (3, .int (nI k))]) hx hb dX0_moves_26 hl (by decide) rfl (fun ls hl => ?_)
          refine lv_iload hx hb dX0_moves_28 (lv_at hl 0 rfl) ?_
          refine lv_if_lt (tgt := 36) hx hb dX0_moves_30 (by decide) (fun c30 => ?_) (fun c30 => ?_)
          · have hm : ¬ (0 ≤ go_att (go_B a) (go_n a) (go_HB a) pa (nI k)) := by rw [← p23.1]; exact fun h => go_lt_le c30 h
            refine lv_iinc (v := nI (k + 1)) (lv' := [(3, .int (nI (k + 1))), (4, .int r23), (0, .ref (b 0)), (1, .int pa), (2, .int (nI ct))]) hx hb dX0_moves_36 hl (k := 4) rfl (nI_add k 1) (by decide) rfl (fun ls hl => ?_)
            refine lv_goto (tgt := 14) hx hb dX0_moves_39 (by decide) ?_
            exact ih (k + 1) ct tb_23 tw_23 (by omega) (by omega) (by rw [go_cnt_n (P := fun j => 0 ≤ go_att (go_B a) (go_n a) (go_HB a) pa (nI j)) hm]; exact hct) _ _ _ hP hD hS (lv_sub hl [2, 3, 4, 0] rfl)
          · have hm : 0 ≤ go_att (go_B a) (go_n a) (go_HB a) pa (nI k) := by rw [← p23.1]; exact go_nlt_le c30
            refine lv_iinc (v := nI (ct + 1)) (lv' := [(2, .int (nI (ct + 1))), (4, .int r23), (0, .ref (b 0)), (1, .int pa), (3, .int (nI k))]) hx hb dX0_moves_33 hl (k := 3) rfl (nI_add ct 1) (by decide) rfl (fun ls hl => ?_)
            refine lv_iinc (v := nI (k + 1)) (lv' := [(3, .int (nI (k + 1))), (2, .int (nI (ct + 1))), (4, .int r23), (0, .ref (b 0)), (1, .int pa)]) hx hb dX0_moves_36 hl (k := 4) rfl (nI_add k 1) (by decide) rfl (fun ls hl => ?_)
            refine lv_goto (tgt := 14) hx hb dX0_moves_39 (by decide) ?_
            exact ih (k + 1) (ct + 1) tb_23 tw_23 (by omega) (by omega) (by rw [go_cnt_y (P := fun j => 0 ≤ go_att (go_B a) (go_n a) (go_HB a) pa (nI j)) hm, ← hct]) _ _ _ hP hD hS (lv_sub hl [3, 4, 1, 0] rfl)
    exact lp14 50 0 0 tb tw (by omega) (by omega) rfl _ _ _ hP hD hS (lv_sub hl [2, 3, 1, 0] rfl)
  · have hp := (go_bz p2).2 c5
    refine lv_iconst (v := (-1)) hx hb dX0_moves_8 (by decide) ?_
    refine go_mri X hK hS ((tb, tw)) hP hD dX0_moves_9 ?_
    unfold go_aMov
    exact (go_ite_f hp).symm
end GoG
end
section
/-! GoBoardModel: its private methods: printed by gen/m1.py -/
def go_bs (B : Nat → Nat) (rc : Nat → Int32) (J w : Nat) (fl : Int32) : Prop := ∃ i, go_ad J i ∧ B i = w ∧ (fl = 0 ∨ ¬ rc i = 0)
theorem go_fill {f f1 g : Nat → Int32} {k : Nat} {v : Int32} (h : ∀ j, j < k → f j = g j) (e : f1 = upd f k v) (hv : v = g k) : ∀ j, j < k + 1 → f1 j = g j := by
  intro j hj
  subst e
  by_cases c : j = k
  · rw [c, pk_us]; exact hv
  · rw [pk_un c]; exact h j (by omega)
theorem go_okq_m {q : Int32} (h : ¬ q < 0) (h2 : ¬ nI 48 < q) : go_okq q := by
  obtain ⟨j, hj, e⟩ := nI_of h
  rw [e] at h2
  have h4 : ¬ 48 < j := fun h3 => h2 ((nI_ltI (by decide) hj).mpr h3)
  exact ⟨j, by omega, e⟩
theorem go_okq_m2 {q : Int32} (h : nI 48 < q) : ¬ go_okq q := fun ⟨j, hj, e⟩ => by
  rw [e] at h
  have := (nI_ltI (by decide) (by omega)).mp h
  omega
theorem go_okp_m {q : Int32} (h : ¬ q = 0) (h2 : ¬ q = nI 1) : ¬ go_okp q := fun ⟨j, hj, e⟩ => by
  rcases (show j = 0 ∨ j = 1 by omega) with rfl | rfl
  · exact h e
  · exact h2 e
section GoM
variable {l : Launch} {D : va_G} {b : Nat → Nat} {cs : Nat → ClassId} {bd hi hf hs : Nat → Int32} {dn : Int32} {cp rc dd kp : Nat → Int32} {B : Nat → Nat} {Z : Nat → Prop} {a : go_A}
set_option maxHeartbeats 4000000 in
set_option maxRecDepth 100000 in
theorem gX1_isPoint  (qa : Int32)  : Met l yX1_isPoint (ws_ yX1_isPoint cX1_isPoint 2 (some .boolean)) ({ frames := 0, cells := 0, slots := 0, locals := 0 } : Room) (go_pP D (go_M b cs bd hi hf hs dn cp rc dd kp) (go_Mt cs) [.ref (b 0), .int qa]) (go_pQi (fun r => (r = nI 1 ∧ go_okq qa) ∨ (r = nI 0 ∧ ¬ go_okq qa))) 0 0 (fun _ => False) := by
  refine go_pMet (by decide) (Nat.le_of_ble_eq_true rfl) ?_
  intro p e s m below meth c ls X hK hP hS hl
  have hl : lv_has ls 2 [(0, .ref (b 0)), (1, .int qa)] := hl
  obtain ⟨hx, hb, hml, hr, hlocks, hown, hts⟩ := id X
  have hP : va_P D go_cl (go_M b cs bd hi hf hs dn cp rc dd kp) s.heap := hP
  refine lv_iload_n hx hb dX1_isPoint_0 rfl (lv_at hl 1 rfl) ?_
  refine lv_if_lt (tgt := 14) hx hb dX1_isPoint_1 (by decide) (fun c1 => ?_) (fun c1 => ?_)
  · refine lv_iconst (v := nI 0) hx hb dX1_isPoint_14 (by decide) ?_
    refine go_prz X hS dX1_isPoint_15 rfl ?_
    exact Or.inr ⟨rfl, go_okq_n c1⟩
  · refine lv_iload_n hx hb dX1_isPoint_4 rfl (lv_at hl 1 rfl) ?_
    refine lv_bipush (v := nI 48) hx hb dX1_isPoint_5 (by decide) ?_
    refine lv_icmp_gt (tgt := 14) hx hb dX1_isPoint_7 (by decide) (fun c7 => ?_) (fun c7 => ?_)
    · refine lv_iconst (v := nI 0) hx hb dX1_isPoint_14 (by decide) ?_
      refine go_prz X hS dX1_isPoint_15 rfl ?_
      exact Or.inr ⟨rfl, go_okq_m2 c7⟩
    · refine lv_iconst (v := nI 1) hx hb dX1_isPoint_10 (by decide) ?_
      refine lv_goto (tgt := 15) hx hb dX1_isPoint_11 (by decide) ?_
      refine go_prz X hS dX1_isPoint_15 rfl ?_
      exact Or.inl ⟨rfl, go_okq_m c1 c7⟩
set_option maxHeartbeats 4000000 in
set_option maxRecDepth 100000 in
theorem gX1_isPlayer  (pa : Int32)  : Met l yX1_isPlayer (ws_ yX1_isPlayer cX1_isPlayer 2 (some .boolean)) ({ frames := 0, cells := 0, slots := 0, locals := 0 } : Room) (go_pP D (go_M b cs bd hi hf hs dn cp rc dd kp) (go_Mt cs) [.ref (b 0), .int pa]) (go_pQi (fun r => (r = nI 1 ∧ go_okp pa) ∨ (r = nI 0 ∧ ¬ go_okp pa))) 0 0 (fun _ => False) := by
  refine go_pMet (by decide) (Nat.le_of_ble_eq_true rfl) ?_
  intro p e s m below meth c ls X hK hP hS hl
  have hl : lv_has ls 2 [(0, .ref (b 0)), (1, .int pa)] := hl
  obtain ⟨hx, hb, hml, hr, hlocks, hown, hts⟩ := id X
  have hP : va_P D go_cl (go_M b cs bd hi hf hs dn cp rc dd kp) s.heap := hP
  refine lv_iload_n hx hb dX1_isPlayer_0 rfl (lv_at hl 1 rfl) ?_
  refine lv_if_eq (tgt := 9) hx hb dX1_isPlayer_1 (by decide) (fun c1 => ?_) (fun c1 => ?_)
  · refine lv_iconst (v := nI 1) hx hb dX1_isPlayer_9 (by decide) ?_
    refine lv_goto (tgt := 14) hx hb dX1_isPlayer_10 (by decide) ?_
    refine go_prz X hS dX1_isPlayer_14 rfl ?_
    exact Or.inl ⟨rfl, 0, by decide, c1⟩
  · refine lv_iload_n hx hb dX1_isPlayer_4 rfl (lv_at hl 1 rfl) ?_
    refine lv_iconst (v := nI 1) hx hb dX1_isPlayer_5 (by decide) ?_
    refine lv_icmp_ne (tgt := 13) hx hb dX1_isPlayer_6 (by decide) (fun c6 => ?_) (fun c6 => ?_)
    · refine lv_iconst (v := nI 0) hx hb dX1_isPlayer_13 (by decide) ?_
      refine go_prz X hS dX1_isPlayer_14 rfl ?_
      exact Or.inr ⟨rfl, go_okp_m c1 c6⟩
    · refine lv_iconst (v := nI 1) hx hb dX1_isPlayer_9 (by decide) ?_
      refine lv_goto (tgt := 14) hx hb dX1_isPlayer_10 (by decide) ?_
      refine go_prz X hS dX1_isPlayer_14 rfl ?_
      exact Or.inl ⟨rfl, 1, by decide, c6⟩
set_option maxHeartbeats 4000000 in
set_option maxRecDepth 100000 in
theorem gX1_neighbour (J k : Nat)  (hJ : J < 49) (hk : k < 4) : Met l yX1_neighbour (ws_ yX1_neighbour cX1_neighbour 3 (some .int)) ({ frames := 0, cells := 0, slots := 0, locals := 0 } : Room) (go_pP D (go_M b cs bd hi hf hs dn cp rc dd kp) (go_Mt cs) [.ref (b 0), .int (nI J), .int (nI k)]) (go_pQi (fun r => r = go_nbv (go_nb k J))) 0 0 (fun _ => False) := by
  refine go_pMet (by decide) (Nat.le_of_ble_eq_true rfl) ?_
  intro p e s m below meth c ls X hK hP hS hl
  have hl : lv_has ls 3 [(0, .ref (b 0)), (1, .int (nI J)), (2, .int (nI k))] := hl
  obtain ⟨hx, hb, hml, hr, hlocks, hown, hts⟩ := id X
  have hP : va_P D go_cl (go_M b cs bd hi hf hs dn cp rc dd kp) s.heap := hP
  refine lv_iload_n hx hb dX1_neighbour_0 rfl (lv_at hl 2 rfl) ?_
  refine lv_if_ne (tgt := 19) hx hb dX1_neighbour_1 (by decide) (fun c1 => ?_) (fun c1 => ?_)
  · have c1 : ¬ k = 0 := fun h => c1 ((nI_eq (a := k) (b := 0) (by omega) (by omega)).mpr h)
    refine lv_iload_n hx hb dX1_neighbour_19 rfl (lv_at hl 2 rfl) ?_
    refine lv_iconst (v := nI 1) hx hb dX1_neighbour_20 (by decide) ?_
    refine lv_icmp_ne (tgt := 39) hx hb dX1_neighbour_21 (by decide) (fun c21 => ?_) (fun c21 => ?_)
    · have c21 : ¬ k = 1 := fun h => c21 ((nI_eq (a := k) (b := 1) (by omega) (by omega)).mpr h)
      refine lv_iload_n hx hb dX1_neighbour_39 rfl (lv_at hl 2 rfl) ?_
      refine lv_iconst (v := nI 2) hx hb dX1_neighbour_40 (by decide) ?_
      refine lv_icmp_ne (tgt := 59) hx hb dX1_neighbour_41 (by decide) (fun c41 => ?_) (fun c41 => ?_)
      · have c41 : ¬ k = 2 := fun h => c41 ((nI_eq (a := k) (b := 2) (by omega) (by omega)).mpr h)
        refine lv_iload_n hx hb dX1_neighbour_59 rfl (lv_at hl 1 rfl) ?_
        refine lv_bipush (v := nI 7) hx hb dX1_neighbour_60 (by decide) ?_
        refine lv_irem hx hb dX1_neighbour_62 (by decide) ?_
        refine lv_topi (fun v62 e62 => ?_)
        obtain rfl : v62 = nI (J % 7) := e62.trans (pk_rem (by omega) (by decide) (by decide))
        refine lv_bipush (v := nI 6) hx hb dX1_neighbour_63 (by decide) ?_
        refine lv_icmp_ne (tgt := 72) hx hb dX1_neighbour_65 (by decide) (fun c65 => ?_) (fun c65 => ?_)
        · have c65 : ¬ (J % 7) = 6 := fun h => c65 ((nI_eq (a := (J % 7)) (b := 6) (by omega) (by omega)).mpr h)
          refine lv_iload_n hx hb dX1_neighbour_72 rfl (lv_at hl 1 rfl) ?_
          refine lv_iconst (v := nI 1) hx hb dX1_neighbour_73 (by decide) ?_
          refine lv_iadd hx hb dX1_neighbour_74 ?_
          refine lv_topi (fun v74 e74 => ?_)
          obtain rfl : v74 = nI (J + 1) := e74.trans (nI_add J 1)
          refine go_pri X hS dX1_neighbour_75 ?_
          exact (congrArg go_nbv (show go_nb k J = some (J + 1) by
            unfold go_nb
            rw [if_neg c1, if_neg c21, if_neg c41, if_neg (by omega)])).symm
        · have c65 : (J % 7) = 6 := (nI_eq (a := (J % 7)) (b := 6) (by omega) (by omega)).mp c65
          refine lv_iconst (v := (-1)) hx hb dX1_neighbour_68 (by decide) ?_
          refine lv_goto (tgt := 75) hx hb dX1_neighbour_69 (by decide) ?_
          refine go_pri X hS dX1_neighbour_75 ?_
          exact (congrArg go_nbv (show go_nb k J = none by
            unfold go_nb
            rw [if_neg c1, if_neg c21, if_neg c41, if_pos (by omega)])).symm
      · have c41 : k = 2 := (nI_eq (a := k) (b := 2) (by omega) (by omega)).mp c41
        refine lv_iload_n hx hb dX1_neighbour_44 rfl (lv_at hl 1 rfl) ?_
        refine lv_bipush (v := nI 7) hx hb dX1_neighbour_45 (by decide) ?_
        refine lv_irem hx hb dX1_neighbour_47 (by decide) ?_
        refine lv_topi (fun v47 e47 => ?_)
        obtain rfl : v47 = nI (J % 7) := e47.trans (pk_rem (by omega) (by decide) (by decide))
        refine lv_if_ne (tgt := 55) hx hb dX1_neighbour_48 (by decide) (fun c48 => ?_) (fun c48 => ?_)
        · have c48 : ¬ (J % 7) = 0 := fun h => c48 ((nI_eq (a := (J % 7)) (b := 0) (by omega) (by omega)).mpr h)
          refine lv_iload_n hx hb dX1_neighbour_55 rfl (lv_at hl 1 rfl) ?_
          refine lv_iconst (v := nI 1) hx hb dX1_neighbour_56 (by decide) ?_
          refine lv_isub hx hb dX1_neighbour_57 ?_
          refine lv_topi (fun v57 e57 => ?_)
          obtain rfl : v57 = nI (J - 1) := e57.trans (pk_sub (by omega))
          refine go_pri X hS dX1_neighbour_58 ?_
          exact (congrArg go_nbv (show go_nb k J = some (J - 1) by
            unfold go_nb
            rw [if_neg c1, if_neg c21, if_pos c41, if_neg (by omega)])).symm
        · have c48 : (J % 7) = 0 := (nI_eq (a := (J % 7)) (b := 0) (by omega) (by omega)).mp c48
          refine lv_iconst (v := (-1)) hx hb dX1_neighbour_51 (by decide) ?_
          refine lv_goto (tgt := 58) hx hb dX1_neighbour_52 (by decide) ?_
          refine go_pri X hS dX1_neighbour_58 ?_
          exact (congrArg go_nbv (show go_nb k J = none by
            unfold go_nb
            rw [if_neg c1, if_neg c21, if_pos c41, if_pos (by omega)])).symm
    · have c21 : k = 1 := (nI_eq (a := k) (b := 1) (by omega) (by omega)).mp c21
      refine lv_iload_n hx hb dX1_neighbour_24 rfl (lv_at hl 1 rfl) ?_
      refine lv_bipush (v := nI 41) hx hb dX1_neighbour_25 (by decide) ?_
      refine lv_icmp_le (tgt := 34) hx hb dX1_neighbour_27 (by decide) (fun c27 => ?_) (fun c27 => ?_)
      · have c27 : J ≤ 41 := (nI_leI (a := J) (b := 41) (by omega) (by omega)).mp c27
        refine lv_iload_n hx hb dX1_neighbour_34 rfl (lv_at hl 1 rfl) ?_
        refine lv_bipush (v := nI 7) hx hb dX1_neighbour_35 (by decide) ?_
        refine lv_iadd hx hb dX1_neighbour_37 ?_
        refine lv_topi (fun v37 e37 => ?_)
        obtain rfl : v37 = nI (J + 7) := e37.trans (nI_add J 7)
        refine go_pri X hS dX1_neighbour_38 ?_
        exact (congrArg go_nbv (show go_nb k J = some (J + 7) by
          unfold go_nb
          rw [if_neg c1, if_pos c21, if_neg (by omega)])).symm
      · have c27 : ¬ J ≤ 41 := fun h => c27 ((nI_leI (a := J) (b := 41) (by omega) (by omega)).mpr h)
        refine lv_iconst (v := (-1)) hx hb dX1_neighbour_30 (by decide) ?_
        refine lv_goto (tgt := 38) hx hb dX1_neighbour_31 (by decide) ?_
        refine go_pri X hS dX1_neighbour_38 ?_
        exact (congrArg go_nbv (show go_nb k J = none by
          unfold go_nb
          rw [if_neg c1, if_pos c21, if_pos (by omega)])).symm
  · have c1 : k = 0 := (nI_eq (a := k) (b := 0) (by omega) (by omega)).mp c1
    refine lv_iload_n hx hb dX1_neighbour_4 rfl (lv_at hl 1 rfl) ?_
    refine lv_bipush (v := nI 7) hx hb dX1_neighbour_5 (by decide) ?_
    refine lv_icmp_ge (tgt := 14) hx hb dX1_neighbour_7 (by decide) (fun c7 => ?_) (fun c7 => ?_)
    · have c7 : 7 ≤ J := (nI_leI (a := 7) (b := J) (by omega) (by omega)).mp c7
      refine lv_iload_n hx hb dX1_neighbour_14 rfl (lv_at hl 1 rfl) ?_
      refine lv_bipush (v := nI 7) hx hb dX1_neighbour_15 (by decide) ?_
      refine lv_isub hx hb dX1_neighbour_17 ?_
      refine lv_topi (fun v17 e17 => ?_)
      obtain rfl : v17 = nI (J - 7) := e17.trans (pk_sub (by omega))
      refine go_pri X hS dX1_neighbour_18 ?_
      exact (congrArg go_nbv (show go_nb k J = some (J - 7) by
        unfold go_nb
        rw [if_pos c1, if_neg (by omega)])).symm
    · have c7 : ¬ 7 ≤ J := fun h => c7 ((nI_leI (a := 7) (b := J) (by omega) (by omega)).mpr h)
      refine lv_iconst (v := (-1)) hx hb dX1_neighbour_10 (by decide) ?_
      refine lv_goto (tgt := 18) hx hb dX1_neighbour_11 (by decide) ?_
      refine go_pri X hS dX1_neighbour_18 ?_
      exact (congrArg go_nbv (show go_nb k J = none by
        unfold go_nb
        rw [if_pos c1, if_pos (by omega)])).symm
set_option maxHeartbeats 4000000 in
set_option maxRecDepth 100000 in
theorem gX1_besides (J w : Nat) (wa : Int32) (fl : Int32) (hJ : J < 49) (hw : w < 2 ^ 31) (ew : wa = nI w) (hB : go_ba bd B) (hB2 : go_b2 B) : Met l yX1_besides (ws_ yX1_besides cX1_besides 6 (some .boolean)) ({ frames := 1, cells := 0, slots := 0, locals := 22 } : Room) (go_pP D (go_M b cs bd hi hf hs dn cp rc dd kp) (go_Mt cs) [.ref (b 0), .int (nI J), .int wa, .int fl]) (go_pQi (fun r => (r = nI 1 ∧ go_bs B rc J w fl) ∨ (r = nI 0 ∧ ¬ go_bs B rc J w fl))) 0 0 (fun _ => False) := by
  refine go_pMet (by decide) (Nat.le_of_ble_eq_true rfl) ?_
  intro p e s m below meth c ls X hK hP hS hl
  have hl : lv_has ls 6 [(0, .ref (b 0)), (1, .int (nI J)), (2, .int wa), (3, .int fl)] := hl
  obtain ⟨hx, hb, hml, hr, hlocks, hown, hts⟩ := id X
  have hP : va_P D go_cl (go_M b cs bd hi hf hs dn cp rc dd kp) s.heap := hP
  have lp3 : ∀ (n : Nat) (k : Nat) , 5 ≤ k + n → k ≤ 4 → (∀ d, d < k → ∀ i, go_nb d J = some i → ¬ (B i = w ∧ (fl = 0 ∨ ¬ rc i = 0))) → ∀ (H : Heap) (locs : List Loc) (ls : Array Slot), va_P D go_cl (go_M b cs bd hi hf hs dn cp rc dd kp) H → va_S (fun _ => False) s.heap H locs → lv_has ls 6 [(0, .ref (b 0)), (1, .int (nI J)), (2, .int wa), (3, .int fl), (4, .int (nI k))] → W p l e ({ frames := 1, cells := 0, slots := 0, locals := 22 } : Room) s m ([.ref (b 0), .int (nI J), .int wa, .int fl] : List Value).toArray below meth c H locs 0 0 (MQ below (go_pQi (fun r => (r = nI 1 ∧ go_bs B rc J w fl) ∨ (r = nI 0 ∧ ¬ go_bs B rc J w fl))) ([.ref (b 0), .int (nI J), .int wa, .int fl] : List Value).toArray s 0 0 (fun _ => False)) (F0 m 3 ls []) := by
    intro n
    induction n with
    | zero =>
      intro k  hn hk hno
      exact absurd hn (by omega)
    | succ n ih =>
      intro k  hn hk hno H locs ls hP hS hl
      refine lv_iload hx hb dX1_besides_3 (lv_at hl 4 rfl) ?_
      refine lv_iconst (v := nI 4) hx hb dX1_besides_5 (by decide) ?_
      refine lv_icmp_ge (tgt := 56) hx hb dX1_besides_6 (by decide) (fun c6 => ?_) (fun c6 => ?_)
      · have c6 : 4 ≤ k := (nI_leI (a := 4) (b := k) (by omega) (by omega)).mp c6
        refine lv_iconst (v := nI 0) hx hb dX1_besides_56 (by decide) ?_
        refine go_prz X hS dX1_besides_57 rfl ?_
        refine Or.inr ⟨rfl, fun h => ?_⟩
        obtain ⟨i, g1, g2⟩ := h
        obtain ⟨d, g3, g4⟩ := (go_nb_ad hJ).mp g1
        exact hno d (by omega) i g4 g2
      · have c6 : ¬ 4 ≤ k := fun h => c6 ((nI_leI (a := 4) (b := k) (by omega) (by omega)).mpr h)
        refine lv_aload_n hx hb dX1_besides_9 rfl (lv_at hl 0 rfl) ?_
        refine lv_iload_n hx hb dX1_besides_10 rfl (lv_at hl 1 rfl) ?_
        refine lv_iload hx hb dX1_besides_11 (lv_at hl 4 rfl) ?_
        refine go_pcI (As := [.int (nI J), .int (nI k)]) (rest := []) X (gX1_neighbour J k hJ (by omega)) (cwV 2 hts (lw_V q251 q253 qs18 q27 q254) rfl rfl rfl (by decide +kernel) ⟨Nat.le_of_ble_eq_true rfl, Nat.le_of_ble_eq_true rfl⟩) hK hP (va_recv hK hP (ci := 1) (q0 := 0) rfl rfl) rfl rfl hl.1 (Nat.le_of_ble_eq_true rfl) dX1_besides_13 ⟨Nat.zero_le _, Nat.zero_le _⟩ hS (fun r13 H1 locs p13 hk hS => ?_)
        have hP := hk _ hP
        clear hk
        generalize H1 = H at hP hS ⊢
        have hnv := go_nbv_c p13 (fun i h => go_nb_lt hJ (by omega) h)
        refine lv_istore (lv' := [(5, .int r13), (0, .ref (b 0)), (1, .int (nI J)), (2, .int wa), (3, .int fl), (4, .int (nI k))]) hx hb dX1_besides_16 hl (by decide) rfl (fun ls hl => ?_)
        refine lv_iload hx hb dX1_besides_18 (lv_at hl 0 rfl) ?_
        refine lv_if_lt (tgt := 50) hx hb dX1_besides_20 (by decide) (fun c20 => ?_) (fun c20 => ?_)
        · have hnn := hnv.1 c20
          refine lv_iinc (v := nI (k + 1)) (lv' := [(4, .int (nI (k + 1))), (5, .int r13), (0, .ref (b 0)), (1, .int (nI J)), (2, .int wa), (3, .int fl)]) hx hb dX1_besides_50 hl (k := 5) rfl (nI_add k 1) (by decide) rfl (fun ls hl => ?_)
          refine lv_goto (tgt := 3) hx hb dX1_besides_53 (by decide) ?_
          exact ih (k + 1) (by omega) (by omega) (fun d hd => by
            by_cases cd : d = k
            · rw [cd]; exact fun i g => absurd (hnn.symm.trans g) (fun h => by cases h)
            · exact hno d (by omega)) _ _ _ hP hS (lv_sub hl [2, 3, 4, 5, 0] rfl)
        · obtain ⟨i, hnb, hi9, rfl⟩ := hnv.2 c20
          refine lv_aload_n hx hb dX1_besides_23 rfl (lv_at hl 1 rfl) ?_
          refine va_get (D := D) (ci := 1) (v := .ref (b 1)) (C := RX1) (T := TX1) (N := 9) hx hb hts in_X1 hown hK hP 0 rfl rfl 0 (by decide) (hts _ q194) (fun _ h9 => h9) rfl dX1_besides_24 ?_
          refine lv_iload hx hb dX1_besides_27 (lv_at hl 0 rfl) ?_
          refine go_ild hx hb hK hP 1 0 rfl rfl i (rfl) (by omega) (by decide) dX1_besides_29 ?_
          refine lv_iload_n hx hb dX1_besides_30 rfl (lv_at hl 3 rfl) ?_
          refine lv_icmp_ne (tgt := 50) hx hb dX1_besides_31 (by decide) (fun c31 => ?_) (fun c31 => ?_)
          · have hne : ¬ B i = w := fun e => c31 (by rw [ew]; exact (go_ba_eq hB hB2 hi9 hw).mpr e)
            refine lv_iinc (v := nI (k + 1)) (lv' := [(4, .int (nI (k + 1))), (5, .int (nI i)), (0, .ref (b 0)), (1, .int (nI J)), (2, .int wa), (3, .int fl)]) hx hb dX1_besides_50 hl (k := 5) rfl (nI_add k 1) (by decide) rfl (fun ls hl => ?_)
            refine lv_goto (tgt := 3) hx hb dX1_besides_53 (by decide) ?_
            exact ih (k + 1) (by omega) (by omega) (fun d hd => by
              by_cases cd : d = k
              · rw [cd]; exact fun i2 g h => hne (by rw [Option.some.inj (hnb.symm.trans g)]; exact h.1)
              · exact hno d (by omega)) _ _ _ hP hS (lv_sub hl [2, 3, 4, 5, 0] rfl)
          · have hBw : B i = w := (go_ba_eq hB hB2 hi9 hw).mp (by rw [← ew]; exact c31)
            refine lv_iload_n hx hb dX1_besides_34 rfl (lv_at hl 4 rfl) ?_
            refine lv_if_eq (tgt := 48) hx hb dX1_besides_35 (by decide) (fun c35 => ?_) (fun c35 => ?_)
            · refine lv_iconst (v := nI 1) hx hb dX1_besides_48 (by decide) ?_
              refine go_prz X hS dX1_besides_49 rfl ?_
              exact Or.inl ⟨rfl, i, (go_nb_ad hJ).mpr ⟨k, by omega, hnb⟩, hBw, Or.inl c35⟩
            · refine lv_aload_n hx hb dX1_besides_38 rfl (lv_at hl 1 rfl) ?_
              refine va_get (D := D) (ci := 1) (v := .ref (b 6)) (C := RX1) (T := TX1) (N := 9) hx hb hts in_X1 hown hK hP 0 rfl rfl 6 (by decide) (hts _ q200) (fun _ h9 => h9) rfl dX1_besides_39 ?_
              refine lv_iload hx hb dX1_besides_42 (lv_at hl 0 rfl) ?_
              refine go_zld hx hb hK hP 6 5 rfl rfl i (rfl) (by omega) (by decide) dX1_besides_44 ?_
              refine lv_if_eq (tgt := 50) hx hb dX1_besides_45 (by decide) (fun c45 => ?_) (fun c45 => ?_)
              · refine lv_iinc (v := nI (k + 1)) (lv' := [(4, .int (nI (k + 1))), (5, .int (nI i)), (0, .ref (b 0)), (1, .int (nI J)), (2, .int wa), (3, .int fl)]) hx hb dX1_besides_50 hl (k := 5) rfl (nI_add k 1) (by decide) rfl (fun ls hl => ?_)
                refine lv_goto (tgt := 3) hx hb dX1_besides_53 (by decide) ?_
                exact ih (k + 1) (by omega) (by omega) (fun d hd => by
                  by_cases cd : d = k
                  · rw [cd]; exact fun i2 g h => h.2.elim c35 (fun h2 => h2 (by rw [← Option.some.inj (hnb.symm.trans g)]; exact c45))
                  · exact hno d (by omega)) _ _ _ hP hS (lv_sub hl [2, 3, 4, 5, 0] rfl)
              · refine lv_iconst (v := nI 1) hx hb dX1_besides_48 (by decide) ?_
                refine go_prz X hS dX1_besides_49 rfl ?_
                exact Or.inl ⟨rfl, i, (go_nb_ad hJ).mpr ⟨k, by omega, hnb⟩, hBw, Or.inr c45⟩
  refine lv_iconst (v := nI 0) hx hb dX1_besides_0 (by decide) ?_
  refine lv_istore (lv' := [(4, .int (nI 0)), (0, .ref (b 0)), (1, .int (nI J)), (2, .int wa), (3, .int fl)]) hx hb dX1_besides_1 hl (by decide) rfl (fun ls hl => ?_)
  exact lp3 5 0 (by omega) (by omega) (fun d h => absurd h (Nat.not_lt_zero d)) _ _ _ hP hS (lv_sub hl [1, 2, 3, 4, 0] rfl)
set_option maxHeartbeats 4000000 in
set_option maxRecDepth 100000 in
theorem gX1_reachFrom (J : Nat)  (hJ : J < 49) (hB : go_ba bd B) (hB2 : go_b2 B) : ∀ sz : Nat, Met l yX1_reachFrom (ws_ yX1_reachFrom cX1_reachFrom 5 (some .int)) ({ frames := 2, cells := 0, slots := 0, locals := 47 } : Room) (go_mP D (go_M b cs bd hi hf hs dn cp rc dd kp) (go_Mt cs) sz [.ref (b 0), .int (nI J)]) (go_mQi (fun (r : Int32) (rc' : (Nat → Int32)) => r = nI (go_cnt (go_gp B J) 49) ∧ go_za rc' (go_gp B J)) D (go_Mt cs) (fun rc' : (Nat → Int32) => go_M b cs bd hi hf hs dn cp rc' dd kp) (va_A (go_M b cs bd hi hf hs dn cp rc dd kp) sz)) 0 0 (va_A (go_M b cs bd hi hf hs dn cp rc dd kp) sz) := by
  refine go_mMet (Qf := fun A => go_mQi (fun (r : Int32) (rc' : (Nat → Int32)) => r = nI (go_cnt (go_gp B J) 49) ∧ go_za rc' (go_gp B J)) D (go_Mt cs) (fun rc' : (Nat → Int32) => go_M b cs bd hi hf hs dn cp rc' dd kp) A) (by decide) (Nat.le_of_ble_eq_true rfl) ?_
  intro p e s m below meth c ls A X hK hP hD hA hS hl
  have hl : lv_has ls 5 [(0, .ref (b 0)), (1, .int (nI J))] := hl
  obtain ⟨hx, hb, hml, hr, hlocks, hown, hts⟩ := id X
  have hP : va_P D go_cl (go_M b cs bd hi hf hs dn cp rc dd kp) s.heap := hP
  have lp34 : ∀ (n : Nat) (ct bf : Nat) (xrc : (Nat → Int32)), 50 ≤ bf + n → bf ≤ 49 → go_rI B J xrc ct bf 49 → ∀ (H : Heap) (locs : List Loc) (ls : Array Slot), va_P D go_cl (go_M b cs bd hi hf hs dn cp xrc dd kp) H → va_D A (go_M b cs bd hi hf hs dn cp xrc dd kp) → va_S A s.heap H locs → lv_has ls 5 [(0, .ref (b 0)), (1, .int (nI J)), (2, .int (nI ct)), (3, .int (nI bf))] → W p l e ({ frames := 2, cells := 0, slots := 0, locals := 47 } : Room) s m ([.ref (b 0), .int (nI J)] : List Value).toArray below meth c H locs 0 0 (MQ below (go_mQi (fun (r : Int32) (rc' : (Nat → Int32)) => r = nI (go_cnt (go_gp B J) 49) ∧ go_za rc' (go_gp B J)) D (go_Mt cs) (fun rc' : (Nat → Int32) => go_M b cs bd hi hf hs dn cp rc' dd kp) A) ([.ref (b 0), .int (nI J)] : List Value).toArray s 0 0 A) (F0 m 34 ls []) := by
    intro n
    induction n with
    | zero =>
      intro ct bf xrc hn hbf hR
      exact absurd hn (by omega)
    | succ n ih =>
      intro ct bf xrc hn hbf hR H locs ls hP hD hS hl
      have hct49 : ct ≤ 49 := by rw [hR.2.2.2.1]; exact go_cnt_le _ 49
      refine lv_iload_n hx hb dX1_reachFrom_34 rfl (lv_at hl 2 rfl) ?_
      refine lv_iload_n hx hb dX1_reachFrom_35 rfl (lv_at hl 3 rfl) ?_
      refine lv_icmp_le (tgt := 113) hx hb dX1_reachFrom_36 (by decide) (fun c36 => ?_) (fun c36 => ?_)
      · have c36 : ct ≤ bf := (nI_leI (a := ct) (b := bf) (by omega) (by omega)).mp c36
        refine lv_iload_n hx hb dX1_reachFrom_113 rfl (lv_at hl 2 rfl) ?_
        refine go_mri X hK hS (xrc) hP hD dX1_reachFrom_114 ?_
        have he := go_rI_e hJ hR c36
        exact ⟨congrArg nI he.1, he.2⟩
      · have c36 : ¬ ct ≤ bf := fun h => c36 ((nI_leI (a := ct) (b := bf) (by omega) (by omega)).mpr h)
        refine lv_iload_n hx hb dX1_reachFrom_39 rfl (lv_at hl 2 rfl) ?_
        refine lv_istore_n (lv' := [(3, .int (nI ct)), (0, .ref (b 0)), (1, .int (nI J)), (2, .int (nI ct))]) hx hb dX1_reachFrom_40 rfl hl (by decide) rfl (fun ls hl => ?_)
        refine lv_iconst (v := nI 0) hx hb dX1_reachFrom_41 (by decide) ?_
        refine lv_istore (lv' := [(4, .int (nI 0)), (3, .int (nI ct)), (0, .ref (b 0)), (1, .int (nI J)), (2, .int (nI ct))]) hx hb dX1_reachFrom_42 hl (by decide) rfl (fun ls hl => ?_)
        have iho := ih
        have lp44 : ∀ (n : Nat) (k c2 : Nat) (xrc : (Nat → Int32)), 50 ≤ k + n → k ≤ 49 → go_rI B J xrc c2 ct k → ∀ (H : Heap) (locs : List Loc) (ls : Array Slot), va_P D go_cl (go_M b cs bd hi hf hs dn cp xrc dd kp) H → va_D A (go_M b cs bd hi hf hs dn cp xrc dd kp) → va_S A s.heap H locs → lv_has ls 5 [(0, .ref (b 0)), (1, .int (nI J)), (2, .int (nI c2)), (3, .int (nI ct)), (4, .int (nI k))] → W p l e ({ frames := 2, cells := 0, slots := 0, locals := 47 } : Room) s m ([.ref (b 0), .int (nI J)] : List Value).toArray below meth c H locs 0 0 (MQ below (go_mQi (fun (r : Int32) (rc' : (Nat → Int32)) => r = nI (go_cnt (go_gp B J) 49) ∧ go_za rc' (go_gp B J)) D (go_Mt cs) (fun rc' : (Nat → Int32) => go_M b cs bd hi hf hs dn cp rc' dd kp) A) ([.ref (b 0), .int (nI J)] : List Value).toArray s 0 0 A) (F0 m 44 ls []) := by
          intro n
          induction n with
          | zero =>
            intro k c2 xrc hn hk hR2
            exact absurd hn (by omega)
          | succ n ih =>
            intro k c2 xrc hn hk hR2 H locs ls hP hD hS hl
            have hc249 : c2 ≤ 49 := by rw [hR2.2.2.2.1]; exact go_cnt_le _ 49
            refine lv_iload hx hb dX1_reachFrom_44 (lv_at hl 4 rfl) ?_
            refine lv_bipush (v := nI 49) hx hb dX1_reachFrom_46 (by decide) ?_
            refine lv_icmp_ge (tgt := 110) hx hb dX1_reachFrom_48 (by decide) (fun c48 => ?_) (fun c48 => ?_)
            · have c48 : 49 ≤ k := (nI_leI (a := 49) (b := k) (by omega) (by omega)).mp c48
              refine lv_goto (tgt := 34) hx hb dX1_reachFrom_110 (by decide) ?_
              exact iho c2 ct xrc (by omega) (by omega) (by rw [show k = 49 by omega] at hR2; exact hR2) _ _ _ hP hD hS (lv_sub hl [0, 1, 2, 3] rfl)
            · have c48 : ¬ 49 ≤ k := fun h => c48 ((nI_leI (a := 49) (b := k) (by omega) (by omega)).mpr h)
              have hk9 : k < 49 := by omega
              refine lv_aload_n hx hb dX1_reachFrom_51 rfl (lv_at hl 0 rfl) ?_
              refine va_get (D := D) (ci := 1) (v := .ref (b 6)) (C := RX1) (T := TX1) (N := 9) hx hb hts in_X1 hown hK hP 0 rfl rfl 6 (by decide) (hts _ q200) (fun _ h9 => h9) rfl dX1_reachFrom_52 ?_
              refine lv_iload hx hb dX1_reachFrom_55 (lv_at hl 4 rfl) ?_
              refine go_zld hx hb hK hP 6 5 rfl rfl k (rfl) (by omega) (by decide) dX1_reachFrom_57 ?_
              refine lv_if_ne (tgt := 104) hx hb dX1_reachFrom_58 (by decide) (fun c58 => ?_) (fun c58 => ?_)
              · refine lv_iinc (v := nI (k + 1)) (lv' := [(4, .int (nI (k + 1))), (0, .ref (b 0)), (1, .int (nI J)), (2, .int (nI c2)), (3, .int (nI ct))]) hx hb dX1_reachFrom_104 hl (k := 4) rfl (nI_add k 1) (by decide) rfl (fun ls hl => ?_)
                refine lv_goto (tgt := 44) hx hb dX1_reachFrom_107 (by decide) ?_
                exact ih (k + 1) c2 xrc (by omega) (by omega) (go_rI_skip hR2 hk9 (Or.inl c58)) _ _ _ hP hD hS (lv_sub hl [1, 2, 3, 4, 0] rfl)
              · refine lv_aload_n hx hb dX1_reachFrom_61 rfl (lv_at hl 0 rfl) ?_
                refine va_get (D := D) (ci := 1) (v := .ref (b 1)) (C := RX1) (T := TX1) (N := 9) hx hb hts in_X1 hown hK hP 0 rfl rfl 0 (by decide) (hts _ q194) (fun _ h9 => h9) rfl dX1_reachFrom_62 ?_
                refine lv_iload hx hb dX1_reachFrom_65 (lv_at hl 4 rfl) ?_
                refine go_ild hx hb hK hP 1 0 rfl rfl k (rfl) (by omega) (by decide) dX1_reachFrom_67 ?_
                refine lv_aload_n hx hb dX1_reachFrom_68 rfl (lv_at hl 0 rfl) ?_
                refine va_get (D := D) (ci := 1) (v := .ref (b 1)) (C := RX1) (T := TX1) (N := 9) hx hb hts in_X1 hown hK hP 0 rfl rfl 0 (by decide) (hts _ q194) (fun _ h9 => h9) rfl dX1_reachFrom_69 ?_
                refine lv_iload_n hx hb dX1_reachFrom_72 rfl (lv_at hl 1 rfl) ?_
                refine go_ild hx hb hK hP 1 0 rfl rfl J (rfl) (by omega) (by decide) dX1_reachFrom_73 ?_
                refine lv_icmp_ne (tgt := 104) hx hb dX1_reachFrom_74 (by decide) (fun c74 => ?_) (fun c74 => ?_)
                · have hne : ¬ B k = B J := fun e => c74 (by rw [hB k hk9, hB J hJ, e])
                  refine lv_iinc (v := nI (k + 1)) (lv' := [(4, .int (nI (k + 1))), (0, .ref (b 0)), (1, .int (nI J)), (2, .int (nI c2)), (3, .int (nI ct))]) hx hb dX1_reachFrom_104 hl (k := 4) rfl (nI_add k 1) (by decide) rfl (fun ls hl => ?_)
                  refine lv_goto (tgt := 44) hx hb dX1_reachFrom_107 (by decide) ?_
                  exact ih (k + 1) c2 xrc (by omega) (by omega) (go_rI_skip hR2 hk9 (Or.inr (Or.inl hne))) _ _ _ hP hD hS (lv_sub hl [1, 2, 3, 4, 0] rfl)
                · have heq : B k = B J := by
                    have h1 := hB2 k hk9
                    have h2 := hB2 J hJ
                    rw [hB k hk9, hB J hJ] at c74
                    exact (nI_eq (by omega) (by omega)).mp c74
                  refine lv_aload_n hx hb dX1_reachFrom_77 rfl (lv_at hl 0 rfl) ?_
                  refine lv_iload hx hb dX1_reachFrom_78 (lv_at hl 4 rfl) ?_
                  refine lv_aload_n hx hb dX1_reachFrom_80 rfl (lv_at hl 0 rfl) ?_
                  refine va_get (D := D) (ci := 1) (v := .ref (b 1)) (C := RX1) (T := TX1) (N := 9) hx hb hts in_X1 hown hK hP 0 rfl rfl 0 (by decide) (hts _ q194) (fun _ h9 => h9) rfl dX1_reachFrom_81 ?_
                  refine lv_iload_n hx hb dX1_reachFrom_84 rfl (lv_at hl 1 rfl) ?_
                  refine go_ild hx hb hK hP 1 0 rfl rfl J (rfl) (by omega) (by decide) dX1_reachFrom_85 ?_
                  refine lv_iconst (v := nI 1) hx hb dX1_reachFrom_86 (by decide) ?_
                  refine go_pcI (As := [.int (nI k), .int (bd J), .int (nI 1)]) (rest := []) X (gX1_besides k (B J) (bd J) (nI 1) hk9 (by have := hB2 J hJ; omega) (hB J hJ) hB hB2) (cwV 3 hts (lw_V q247 q249 qs17 q27 q250) rfl rfl rfl (by decide +kernel) ⟨Nat.le_of_ble_eq_true rfl, Nat.le_of_ble_eq_true rfl⟩) hK hP (va_recv hK hP (ci := 1) (q0 := 0) rfl rfl) rfl rfl hl.1 (Nat.le_of_ble_eq_true rfl) dX1_reachFrom_87 ⟨Nat.zero_le _, Nat.zero_le _⟩ hS (fun r87 H1 locs p87 hk hS => ?_)
                  have hP := hk _ hP
                  clear hk
                  generalize H1 = H at hP hS ⊢
                  refine lv_if_eq (tgt := 104) hx hb dX1_reachFrom_90 (by decide) (fun c90 => ?_) (fun c90 => ?_)
                  · refine lv_iinc (v := nI (k + 1)) (lv' := [(4, .int (nI (k + 1))), (0, .ref (b 0)), (1, .int (nI J)), (2, .int (nI c2)), (3, .int (nI ct))]) hx hb dX1_reachFrom_104 hl (k := 4) rfl (nI_add k 1) (by decide) rfl (fun ls hl => ?_)
                    refine lv_goto (tgt := 44) hx hb dX1_reachFrom_107 (by decide) ?_
                    exact ih (k + 1) c2 xrc (by omega) (by omega) (go_rI_skip hR2 hk9 (Or.inr (Or.inr (fun ⟨i, g1, g2, g3⟩ => (go_bo p87).1 c90 ⟨i, g1, g2, Or.inr g3⟩)))) _ _ _ hP hD hS (lv_sub hl [1, 2, 3, 4, 0] rfl)
                  · refine lv_aload_n hx hb dX1_reachFrom_93 rfl (lv_at hl 0 rfl) ?_
                    refine va_get (D := D) (ci := 1) (v := .ref (b 6)) (C := RX1) (T := TX1) (N := 9) hx hb hts in_X1 hown hK hP 0 rfl rfl 6 (by decide) (hts _ q200) (fun _ h9 => h9) rfl dX1_reachFrom_94 ?_
                    refine lv_iload hx hb dX1_reachFrom_97 (lv_at hl 4 rfl) ?_
                    refine lv_iconst (v := nI 1) hx hb dX1_reachFrom_99 (by decide) ?_
                    refine go_zst hx hb hK hP hD hS 6 5 rfl rfl k (rfl) (by omega) (by decide) (by rfl) dX1_reachFrom_100 (fun rc_100 H locs erc_100 hP hD hS => ?_)
                    have hP : va_P D go_cl (go_M b cs bd hi hf hs dn cp rc_100 dd kp) H := hP
                    have hD : va_D A (go_M b cs bd hi hf hs dn cp rc_100 dd kp) := hD
                    refine lv_iinc (v := nI (c2 + 1)) (lv' := [(2, .int (nI (c2 + 1))), (0, .ref (b 0)), (1, .int (nI J)), (3, .int (nI ct)), (4, .int (nI k))]) hx hb dX1_reachFrom_101 hl (k := 2) rfl (nI_add c2 1) (by decide) rfl (fun ls hl => ?_)
                    refine lv_iinc (v := nI (k + 1)) (lv' := [(4, .int (nI (k + 1))), (2, .int (nI (c2 + 1))), (0, .ref (b 0)), (1, .int (nI J)), (3, .int (nI ct))]) hx hb dX1_reachFrom_104 hl (k := 4) rfl (nI_add k 1) (by decide) rfl (fun ls hl => ?_)
                    refine lv_goto (tgt := 44) hx hb dX1_reachFrom_107 (by decide) ?_
                    exact ih (k + 1) (c2 + 1) rc_100 (by omega) (by omega) (go_rI_add hR2 hk9 c58 heq (by
                      obtain ⟨i, g1, g2, g3⟩ := (go_bo p87).2 c90
                      exact ⟨i, g1, g2, g3.elim (fun h => absurd h (by decide)) id⟩) erc_100) _ _ _ hP hD hS (lv_sub hl [2, 3, 1, 4, 0] rfl)
        exact lp44 50 0 ct xrc (by omega) (by omega) (go_rI_n hR) _ _ _ hP hD hS (lv_sub hl [2, 3, 4, 1, 0] rfl)
  have lp2 : ∀ (n : Nat) (k : Nat) (xrc : (Nat → Int32)), 50 ≤ k + n → k ≤ 49 → (∀ j, j < k → xrc j = go_z (j = J)) → ∀ (H : Heap) (locs : List Loc) (ls : Array Slot), va_P D go_cl (go_M b cs bd hi hf hs dn cp xrc dd kp) H → va_D A (go_M b cs bd hi hf hs dn cp xrc dd kp) → va_S A s.heap H locs → lv_has ls 5 [(0, .ref (b 0)), (1, .int (nI J)), (2, .int (nI k))] → W p l e ({ frames := 2, cells := 0, slots := 0, locals := 47 } : Room) s m ([.ref (b 0), .int (nI J)] : List Value).toArray below meth c H locs 0 0 (MQ below (go_mQi (fun (r : Int32) (rc' : (Nat → Int32)) => r = nI (go_cnt (go_gp B J) 49) ∧ go_za rc' (go_gp B J)) D (go_Mt cs) (fun rc' : (Nat → Int32) => go_M b cs bd hi hf hs dn cp rc' dd kp) A) ([.ref (b 0), .int (nI J)] : List Value).toArray s 0 0 A) (F0 m 2 ls []) := by
    intro n
    induction n with
    | zero =>
      intro k xrc hn hk hz
      exact absurd hn (by omega)
    | succ n ih =>
      intro k xrc hn hk hz H locs ls hP hD hS hl
      refine lv_iload_n hx hb dX1_reachFrom_2 rfl (lv_at hl 2 rfl) ?_
      refine lv_bipush (v := nI 49) hx hb dX1_reachFrom_3 (by decide) ?_
      refine lv_icmp_ge (tgt := 30) hx hb dX1_reachFrom_5 (by decide) (fun c5 => ?_) (fun c5 => ?_)
      · have c5 : 49 ≤ k := (nI_leI (a := 49) (b := k) (by omega) (by omega)).mp c5
        refine lv_iconst (v := nI 1) hx hb dX1_reachFrom_30 (by decide) ?_
        refine lv_istore_n (lv' := [(2, .int (nI 1)), (0, .ref (b 0)), (1, .int (nI J))]) hx hb dX1_reachFrom_31 rfl hl (by decide) rfl (fun ls hl => ?_)
        refine lv_iconst (v := nI 0) hx hb dX1_reachFrom_32 (by decide) ?_
        refine lv_istore_n (lv' := [(3, .int (nI 0)), (2, .int (nI 1)), (0, .ref (b 0)), (1, .int (nI J))]) hx hb dX1_reachFrom_33 rfl hl (by decide) rfl (fun ls hl => ?_)
        exact lp34 50 1 0 xrc (by omega) (by omega) (go_rI_0 hJ (fun j hj => hz j (by omega))) _ _ _ hP hD hS (lv_sub hl [2, 3, 1, 0] rfl)
      · have c5 : ¬ 49 ≤ k := fun h => c5 ((nI_leI (a := 49) (b := k) (by omega) (by omega)).mpr h)
        refine lv_aload_n hx hb dX1_reachFrom_8 rfl (lv_at hl 0 rfl) ?_
        refine va_get (D := D) (ci := 1) (v := .ref (b 6)) (C := RX1) (T := TX1) (N := 9) hx hb hts in_X1 hown hK hP 0 rfl rfl 6 (by decide) (hts _ q200) (fun _ h9 => h9) rfl dX1_reachFrom_9 ?_
        refine lv_iload_n hx hb dX1_reachFrom_12 rfl (lv_at hl 2 rfl) ?_
        refine lv_iload_n hx hb dX1_reachFrom_13 rfl (lv_at hl 2 rfl) ?_
        refine lv_iload_n hx hb dX1_reachFrom_14 rfl (lv_at hl 1 rfl) ?_
        refine lv_icmp_ne (tgt := 22) hx hb dX1_reachFrom_15 (by decide) (fun c15 => ?_) (fun c15 => ?_)
        · have c15 : ¬ k = J := fun h => c15 ((nI_eq (a := k) (b := J) (by omega) (by omega)).mpr h)
          refine lv_iconst (v := nI 0) hx hb dX1_reachFrom_22 (by decide) ?_
          refine go_zst hx hb hK hP hD hS 6 5 rfl rfl k (rfl) (by omega) (by decide) (by rfl) dX1_reachFrom_23 (fun rc_23 H locs erc_23 hP hD hS => ?_)
          have hP : va_P D go_cl (go_M b cs bd hi hf hs dn cp rc_23 dd kp) H := hP
          have hD : va_D A (go_M b cs bd hi hf hs dn cp rc_23 dd kp) := hD
          refine lv_iinc (v := nI (k + 1)) (lv' := [(2, .int (nI (k + 1))), (0, .ref (b 0)), (1, .int (nI J))]) hx hb dX1_reachFrom_24 hl (k := 2) rfl (nI_add k 1) (by decide) rfl (fun ls hl => ?_)
          refine lv_goto (tgt := 2) hx hb dX1_reachFrom_27 (by decide) ?_
          exact ih (k + 1) rc_23 (by omega) (by omega) (go_fill (g := fun j => go_z (j = J)) hz erc_23 (go_z_f c15).symm) _ _ _ hP hD hS (lv_sub hl [1, 2, 0] rfl)
        · have c15 : k = J := (nI_eq (a := k) (b := J) (by omega) (by omega)).mp c15
          refine lv_iconst (v := nI 1) hx hb dX1_reachFrom_18 (by decide) ?_
          refine lv_goto (tgt := 23) hx hb dX1_reachFrom_19 (by decide) ?_
          refine go_zst hx hb hK hP hD hS 6 5 rfl rfl k (rfl) (by omega) (by decide) (by rfl) dX1_reachFrom_23 (fun rc_23 H locs erc_23 hP hD hS => ?_)
          have hP : va_P D go_cl (go_M b cs bd hi hf hs dn cp rc_23 dd kp) H := hP
          have hD : va_D A (go_M b cs bd hi hf hs dn cp rc_23 dd kp) := hD
          refine lv_iinc (v := nI (k + 1)) (lv' := [(2, .int (nI (k + 1))), (0, .ref (b 0)), (1, .int (nI J))]) hx hb dX1_reachFrom_24 hl (k := 2) rfl (nI_add k 1) (by decide) rfl (fun ls hl => ?_)
          refine lv_goto (tgt := 2) hx hb dX1_reachFrom_27 (by decide) ?_
          exact ih (k + 1) rc_23 (by omega) (by omega) (go_fill (g := fun j => go_z (j = J)) hz erc_23 (go_z_t c15).symm) _ _ _ hP hD hS (lv_sub hl [1, 2, 0] rfl)
  refine lv_iconst (v := nI 0) hx hb dX1_reachFrom_0 (by decide) ?_
  refine lv_istore_n (lv' := [(2, .int (nI 0)), (0, .ref (b 0)), (1, .int (nI J))]) hx hb dX1_reachFrom_1 rfl hl (by decide) rfl (fun ls hl => ?_)
  exact lp2 50 0 rc (by omega) (by omega) (fun j h => absurd h (Nat.not_lt_zero j)) _ _ _ hP hD hS (lv_sub hl [1, 2, 0] rfl)
set_option maxHeartbeats 4000000 in
set_option maxRecDepth 100000 in
theorem gX1_countLiberties   (hB : go_ba bd B) (hB2 : go_b2 B) (hZ : go_za rc Z) : Met l yX1_countLiberties (ws_ yX1_countLiberties cX1_countLiberties 6 (some .int)) ({ frames := 1, cells := 0, slots := 0, locals := 22 } : Room) (go_pP D (go_M b cs bd hi hf hs dn cp rc dd kp) (go_Mt cs) [.ref (b 0)]) (go_pQi (fun r => r = nI (go_cnt (go_lb B Z) 49))) 0 0 (fun _ => False) := by
  refine go_pMet (by decide) (Nat.le_of_ble_eq_true rfl) ?_
  intro p e s m below meth c ls X hK hP hS hl
  have hl : lv_has ls 6 [(0, .ref (b 0))] := hl
  obtain ⟨hx, hb, hml, hr, hlocks, hown, hts⟩ := id X
  have hP : va_P D go_cl (go_M b cs bd hi hf hs dn cp rc dd kp) s.heap := hP
  have lp4 : ∀ (n : Nat) (k ct : Nat) , 50 ≤ k + n → k ≤ 49 → ct = go_cnt (go_lb B Z) k → ∀ (H : Heap) (locs : List Loc) (ls : Array Slot), va_P D go_cl (go_M b cs bd hi hf hs dn cp rc dd kp) H → va_S (fun _ => False) s.heap H locs → lv_has ls 6 [(0, .ref (b 0)), (1, .int (nI ct)), (2, .int (nI k))] → W p l e ({ frames := 1, cells := 0, slots := 0, locals := 22 } : Room) s m ([.ref (b 0)] : List Value).toArray below meth c H locs 0 0 (MQ below (go_pQi (fun r => r = nI (go_cnt (go_lb B Z) 49))) ([.ref (b 0)] : List Value).toArray s 0 0 (fun _ => False)) (F0 m 4 ls []) := by
    intro n
    induction n with
    | zero =>
      intro k ct  hn hk hct
      exact absurd hn (by omega)
    | succ n ih =>
      intro k ct  hn hk hct H locs ls hP hS hl
      refine lv_iload_n hx hb dX1_countLiberties_4 rfl (lv_at hl 2 rfl) ?_
      refine lv_bipush (v := nI 49) hx hb dX1_countLiberties_5 (by decide) ?_
      refine lv_icmp_ge (tgt := 89) hx hb dX1_countLiberties_7 (by decide) (fun c7 => ?_) (fun c7 => ?_)
      · have c7 : 49 ≤ k := (nI_leI (a := 49) (b := k) (by omega) (by omega)).mp c7
        refine lv_iload_n hx hb dX1_countLiberties_89 rfl (lv_at hl 1 rfl) ?_
        refine go_pri X hS dX1_countLiberties_90 ?_
        rw [hct, show k = 49 by omega]
      · have c7 : ¬ 49 ≤ k := fun h => c7 ((nI_leI (a := 49) (b := k) (by omega) (by omega)).mpr h)
        have hk9 : k < 49 := by omega
        have hct49 := go_cnt_le (go_lb B Z) k
        refine lv_iconst (v := nI 0) hx hb dX1_countLiberties_10 (by decide) ?_
        refine lv_istore_n (lv' := [(3, .int (nI 0)), (0, .ref (b 0)), (1, .int (nI ct)), (2, .int (nI k))]) hx hb dX1_countLiberties_11 rfl hl (by decide) rfl (fun ls hl => ?_)
        refine lv_iconst (v := nI 0) hx hb dX1_countLiberties_12 (by decide) ?_
        refine lv_istore (lv' := [(4, .int (nI 0)), (3, .int (nI 0)), (0, .ref (b 0)), (1, .int (nI ct)), (2, .int (nI k))]) hx hb dX1_countLiberties_13 hl (by decide) rfl (fun ls hl => ?_)
        have iho := ih
        have lp15 : ∀ (n : Nat) (d : Nat) (fr : Int32) , 5 ≤ d + n → d ≤ 4 → go_lI B Z k d fr → ∀ (H : Heap) (locs : List Loc) (ls : Array Slot), va_P D go_cl (go_M b cs bd hi hf hs dn cp rc dd kp) H → va_S (fun _ => False) s.heap H locs → lv_has ls 6 [(0, .ref (b 0)), (1, .int (nI ct)), (2, .int (nI k)), (3, .int fr), (4, .int (nI d))] → W p l e ({ frames := 1, cells := 0, slots := 0, locals := 22 } : Room) s m ([.ref (b 0)] : List Value).toArray below meth c H locs 0 0 (MQ below (go_pQi (fun r => r = nI (go_cnt (go_lb B Z) 49))) ([.ref (b 0)] : List Value).toArray s 0 0 (fun _ => False)) (F0 m 15 ls []) := by
          intro n
          induction n with
          | zero =>
            intro d fr  hn hd hL
            exact absurd hn (by omega)
          | succ n ih =>
            intro d fr  hn hd hL H locs ls hP hS hl
            refine lv_iload hx hb dX1_countLiberties_15 (lv_at hl 4 rfl) ?_
            refine lv_iconst (v := nI 4) hx hb dX1_countLiberties_17 (by decide) ?_
            refine lv_icmp_ge (tgt := 71) hx hb dX1_countLiberties_18 (by decide) (fun c18 => ?_) (fun c18 => ?_)
            · have c18 : 4 ≤ d := (nI_leI (a := 4) (b := d) (by omega) (by omega)).mp c18
              refine lv_iload_n hx hb dX1_countLiberties_71 rfl (lv_at hl 3 rfl) ?_
              refine lv_if_eq (tgt := 81) hx hb dX1_countLiberties_72 (by decide) (fun c72 => ?_) (fun c72 => ?_)
              · have hl9 := (go_lI_e hk9 hL (by omega)).1 c72
                refine lv_iload_n hx hb dX1_countLiberties_81 rfl (lv_at hl 1 rfl) ?_
                refine lv_istore_n (lv' := [(1, .int (nI ct)), (0, .ref (b 0)), (2, .int (nI k)), (3, .int fr), (4, .int (nI d))]) hx hb dX1_countLiberties_82 rfl hl (by decide) rfl (fun ls hl => ?_)
                refine lv_iinc (v := nI (k + 1)) (lv' := [(2, .int (nI (k + 1))), (1, .int (nI ct)), (0, .ref (b 0)), (3, .int fr), (4, .int (nI d))]) hx hb dX1_countLiberties_83 hl (k := 2) rfl (nI_add k 1) (by decide) rfl (fun ls hl => ?_)
                refine lv_goto (tgt := 4) hx hb dX1_countLiberties_86 (by decide) ?_
                exact iho (k + 1) ct (by omega) (by omega) (by rw [go_cnt_n hl9]; exact hct) _ _ _ hP hS (lv_sub hl [2, 1, 0] rfl)
              · have hl9 := (go_lI_e hk9 hL (by omega)).2 c72
                refine lv_iload_n hx hb dX1_countLiberties_75 rfl (lv_at hl 1 rfl) ?_
                refine lv_iconst (v := nI 1) hx hb dX1_countLiberties_76 (by decide) ?_
                refine lv_iadd hx hb dX1_countLiberties_77 ?_
                refine lv_topi (fun v77 e77 => ?_)
                obtain rfl : v77 = nI (ct + 1) := e77.trans (nI_add ct 1)
                refine lv_goto (tgt := 82) hx hb dX1_countLiberties_78 (by decide) ?_
                refine lv_istore_n (lv' := [(1, .int (nI (ct + 1))), (0, .ref (b 0)), (2, .int (nI k)), (3, .int fr), (4, .int (nI d))]) hx hb dX1_countLiberties_82 rfl hl (by decide) rfl (fun ls hl => ?_)
                refine lv_iinc (v := nI (k + 1)) (lv' := [(2, .int (nI (k + 1))), (1, .int (nI (ct + 1))), (0, .ref (b 0)), (3, .int fr), (4, .int (nI d))]) hx hb dX1_countLiberties_83 hl (k := 2) rfl (nI_add k 1) (by decide) rfl (fun ls hl => ?_)
                refine lv_goto (tgt := 4) hx hb dX1_countLiberties_86 (by decide) ?_
                exact iho (k + 1) (ct + 1) (by omega) (by omega) (by rw [go_cnt_y hl9, ← hct]) _ _ _ hP hS (lv_sub hl [2, 1, 0] rfl)
            · have c18 : ¬ 4 ≤ d := fun h => c18 ((nI_leI (a := 4) (b := d) (by omega) (by omega)).mpr h)
              refine lv_aload_n hx hb dX1_countLiberties_21 rfl (lv_at hl 0 rfl) ?_
              refine lv_iload_n hx hb dX1_countLiberties_22 rfl (lv_at hl 2 rfl) ?_
              refine lv_iload hx hb dX1_countLiberties_23 (lv_at hl 4 rfl) ?_
              refine go_pcI (As := [.int (nI k), .int (nI d)]) (rest := []) X (gX1_neighbour k d hk9 (by omega)) (cwV 2 hts (lw_V q251 q253 qs18 q27 q254) rfl rfl rfl (by decide +kernel) ⟨Nat.le_of_ble_eq_true rfl, Nat.le_of_ble_eq_true rfl⟩) hK hP (va_recv hK hP (ci := 1) (q0 := 0) rfl rfl) rfl rfl hl.1 (Nat.le_of_ble_eq_true rfl) dX1_countLiberties_25 ⟨Nat.zero_le _, Nat.zero_le _⟩ hS (fun r25 H1 locs p25 hk hS => ?_)
              have hP := hk _ hP
              clear hk
              generalize H1 = H at hP hS ⊢
              have hnv := go_nbv_c p25 (fun i h => go_nb_lt hk9 (by omega) h)
              refine lv_istore (lv' := [(5, .int r25), (0, .ref (b 0)), (1, .int (nI ct)), (2, .int (nI k)), (3, .int fr), (4, .int (nI d))]) hx hb dX1_countLiberties_28 hl (by decide) rfl (fun ls hl => ?_)
              refine lv_iload_n hx hb dX1_countLiberties_30 rfl (lv_at hl 4 rfl) ?_
              refine lv_if_ne (tgt := 59) hx hb dX1_countLiberties_31 (by decide) (fun c31 => ?_) (fun c31 => ?_)
              · refine lv_iconst (v := nI 1) hx hb dX1_countLiberties_59 (by decide) ?_
                refine lv_goto (tgt := 64) hx hb dX1_countLiberties_60 (by decide) ?_
                refine lv_istore_n (lv' := [(3, .int (nI 1)), (5, .int r25), (0, .ref (b 0)), (1, .int (nI ct)), (2, .int (nI k)), (4, .int (nI d))]) hx hb dX1_countLiberties_64 rfl hl (by decide) rfl (fun ls hl => ?_)
                refine lv_iinc (v := nI (d + 1)) (lv' := [(4, .int (nI (d + 1))), (3, .int (nI 1)), (5, .int r25), (0, .ref (b 0)), (1, .int (nI ct)), (2, .int (nI k))]) hx hb dX1_countLiberties_65 hl (k := 5) rfl (nI_add d 1) (by decide) rfl (fun ls hl => ?_)
                refine lv_goto (tgt := 15) hx hb dX1_countLiberties_68 (by decide) ?_
                exact ih (d + 1) (nI 1) (by omega) (by omega) (go_lI_k hL c31) _ _ _ hP hS (lv_sub hl [3, 4, 5, 1, 0] rfl)
              · refine lv_aload_n hx hb dX1_countLiberties_34 rfl (lv_at hl 1 rfl) ?_
                refine va_get (D := D) (ci := 1) (v := .ref (b 1)) (C := RX1) (T := TX1) (N := 9) hx hb hts in_X1 hown hK hP 0 rfl rfl 0 (by decide) (hts _ q194) (fun _ h9 => h9) rfl dX1_countLiberties_35 ?_
                refine lv_iload_n hx hb dX1_countLiberties_38 rfl (lv_at hl 3 rfl) ?_
                refine go_ild hx hb hK hP 1 0 rfl rfl k (rfl) (by omega) (by decide) dX1_countLiberties_39 ?_
                refine lv_iconst (v := nI 2) hx hb dX1_countLiberties_40 (by decide) ?_
                refine lv_icmp_ne (tgt := 63) hx hb dX1_countLiberties_41 (by decide) (fun c41 => ?_) (fun c41 => ?_)
                · have hne : ¬ B k = 2 := fun e => c41 ((go_ba_eq hB hB2 hk9 (by decide)).mpr e)
                  refine lv_iconst (v := nI 0) hx hb dX1_countLiberties_63 (by decide) ?_
                  refine lv_istore_n (lv' := [(3, .int (nI 0)), (5, .int r25), (0, .ref (b 0)), (1, .int (nI ct)), (2, .int (nI k)), (4, .int (nI d))]) hx hb dX1_countLiberties_64 rfl hl (by decide) rfl (fun ls hl => ?_)
                  refine lv_iinc (v := nI (d + 1)) (lv' := [(4, .int (nI (d + 1))), (3, .int (nI 0)), (5, .int r25), (0, .ref (b 0)), (1, .int (nI ct)), (2, .int (nI k))]) hx hb dX1_countLiberties_65 hl (k := 5) rfl (nI_add d 1) (by decide) rfl (fun ls hl => ?_)
                  refine lv_goto (tgt := 15) hx hb dX1_countLiberties_68 (by decide) ?_
                  exact ih (d + 1) (nI 0) (by omega) (by omega) (go_lI_n hL c31 (fun i _ h => absurd h hne)) _ _ _ hP hS (lv_sub hl [3, 4, 5, 1, 0] rfl)
                · have heq : B k = 2 := (go_ba_eq hB hB2 hk9 (by decide)).mp c41
                  refine lv_iload hx hb dX1_countLiberties_44 (lv_at hl 0 rfl) ?_
                  refine lv_if_lt (tgt := 63) hx hb dX1_countLiberties_46 (by decide) (fun c46 => ?_) (fun c46 => ?_)
                  · refine lv_iconst (v := nI 0) hx hb dX1_countLiberties_63 (by decide) ?_
                    refine lv_istore_n (lv' := [(3, .int (nI 0)), (5, .int r25), (0, .ref (b 0)), (1, .int (nI ct)), (2, .int (nI k)), (4, .int (nI d))]) hx hb dX1_countLiberties_64 rfl hl (by decide) rfl (fun ls hl => ?_)
                    refine lv_iinc (v := nI (d + 1)) (lv' := [(4, .int (nI (d + 1))), (3, .int (nI 0)), (5, .int r25), (0, .ref (b 0)), (1, .int (nI ct)), (2, .int (nI k))]) hx hb dX1_countLiberties_65 hl (k := 5) rfl (nI_add d 1) (by decide) rfl (fun ls hl => ?_)
                    refine lv_goto (tgt := 15) hx hb dX1_countLiberties_68 (by decide) ?_
                    exact ih (d + 1) (nI 0) (by omega) (by omega) (go_lI_n hL c31 (fun i g => absurd ((hnv.1 c46).symm.trans g) (fun h => by cases h))) _ _ _ hP hS (lv_sub hl [3, 4, 5, 1, 0] rfl)
                  · obtain ⟨i, hnb, hi9, rfl⟩ := hnv.2 c46
                    refine lv_aload_n hx hb dX1_countLiberties_49 rfl (lv_at hl 1 rfl) ?_
                    refine va_get (D := D) (ci := 1) (v := .ref (b 6)) (C := RX1) (T := TX1) (N := 9) hx hb hts in_X1 hown hK hP 0 rfl rfl 6 (by decide) (hts _ q200) (fun _ h9 => h9) rfl dX1_countLiberties_50 ?_
                    refine lv_iload hx hb dX1_countLiberties_53 (lv_at hl 0 rfl) ?_
                    refine go_zld hx hb hK hP 6 5 rfl rfl i (rfl) (by omega) (by decide) dX1_countLiberties_55 ?_
                    refine lv_if_eq (tgt := 63) hx hb dX1_countLiberties_56 (by decide) (fun c56 => ?_) (fun c56 => ?_)
                    · refine lv_iconst (v := nI 0) hx hb dX1_countLiberties_63 (by decide) ?_
                      refine lv_istore_n (lv' := [(3, .int (nI 0)), (5, .int (nI i)), (0, .ref (b 0)), (1, .int (nI ct)), (2, .int (nI k)), (4, .int (nI d))]) hx hb dX1_countLiberties_64 rfl hl (by decide) rfl (fun ls hl => ?_)
                      refine lv_iinc (v := nI (d + 1)) (lv' := [(4, .int (nI (d + 1))), (3, .int (nI 0)), (5, .int (nI i)), (0, .ref (b 0)), (1, .int (nI ct)), (2, .int (nI k))]) hx hb dX1_countLiberties_65 hl (k := 5) rfl (nI_add d 1) (by decide) rfl (fun ls hl => ?_)
                      refine lv_goto (tgt := 15) hx hb dX1_countLiberties_68 (by decide) ?_
                      exact ih (d + 1) (nI 0) (by omega) (by omega) (go_lI_n hL c31 (fun i2 g _ => by rw [← Option.some.inj (hnb.symm.trans g)]; exact (go_z_nz (hZ i hi9)).1 c56)) _ _ _ hP hS (lv_sub hl [3, 4, 5, 1, 0] rfl)
                    · refine lv_iconst (v := nI 1) hx hb dX1_countLiberties_59 (by decide) ?_
                      refine lv_goto (tgt := 64) hx hb dX1_countLiberties_60 (by decide) ?_
                      refine lv_istore_n (lv' := [(3, .int (nI 1)), (5, .int (nI i)), (0, .ref (b 0)), (1, .int (nI ct)), (2, .int (nI k)), (4, .int (nI d))]) hx hb dX1_countLiberties_64 rfl hl (by decide) rfl (fun ls hl => ?_)
                      refine lv_iinc (v := nI (d + 1)) (lv' := [(4, .int (nI (d + 1))), (3, .int (nI 1)), (5, .int (nI i)), (0, .ref (b 0)), (1, .int (nI ct)), (2, .int (nI k))]) hx hb dX1_countLiberties_65 hl (k := 5) rfl (nI_add d 1) (by decide) rfl (fun ls hl => ?_)
                      refine lv_goto (tgt := 15) hx hb dX1_countLiberties_68 (by decide) ?_
                      exact ih (d + 1) (nI 1) (by omega) (by omega) (go_lI_y hk9 (by omega) heq hnb ((go_z_nz (hZ i hi9)).2 c56)) _ _ _ hP hS (lv_sub hl [3, 4, 5, 1, 0] rfl)
        exact lp15 5 0 (nI 0) (by omega) (by omega) (go_lI_0 B Z k) _ _ _ hP hS (lv_sub hl [2, 3, 4, 1, 0] rfl)
  refine lv_iconst (v := nI 0) hx hb dX1_countLiberties_0 (by decide) ?_
  refine lv_istore_n (lv' := [(1, .int (nI 0)), (0, .ref (b 0))]) hx hb dX1_countLiberties_1 rfl hl (by decide) rfl (fun ls hl => ?_)
  refine lv_iconst (v := nI 0) hx hb dX1_countLiberties_2 (by decide) ?_
  refine lv_istore_n (lv' := [(2, .int (nI 0)), (1, .int (nI 0)), (0, .ref (b 0))]) hx hb dX1_countLiberties_3 rfl hl (by decide) rfl (fun ls hl => ?_)
  exact lp4 50 0 0 (by omega) (by omega) rfl _ _ _ hP hS (lv_sub hl [2, 1, 0] rfl)
set_option maxHeartbeats 4000000 in
set_option maxRecDepth 100000 in
theorem gX1_firstReached   (hZ : go_za rc Z) (hne : ∃ j, j < 49 ∧ Z j) : Met l yX1_firstReached (ws_ yX1_firstReached cX1_firstReached 3 (some .int)) ({ frames := 0, cells := 0, slots := 0, locals := 0 } : Room) (go_pP D (go_M b cs bd hi hf hs dn cp rc dd kp) (go_Mt cs) [.ref (b 0)]) (go_pQi (fun r => ∃ F, r = nI F ∧ F < 49 ∧ Z F ∧ ∀ j, j < F → ¬ Z j)) 0 0 (fun _ => False) := by
  refine go_pMet (by decide) (Nat.le_of_ble_eq_true rfl) ?_
  intro p e s m below meth c ls X hK hP hS hl
  have hl : lv_has ls 3 [(0, .ref (b 0))] := hl
  obtain ⟨hx, hb, hml, hr, hlocks, hown, hts⟩ := id X
  have hP : va_P D go_cl (go_M b cs bd hi hf hs dn cp rc dd kp) s.heap := hP
  have lp6 : ∀ (n : Nat) (k1 f : Nat) (qv : Int32) , k1 < n → k1 ≤ 49 → go_fI Z k1 f → ((k1 = 0 ∧ qv = -1) ∨ (∃ k, k1 = k + 1 ∧ qv = nI k)) → ∀ (H : Heap) (locs : List Loc) (ls : Array Slot), va_P D go_cl (go_M b cs bd hi hf hs dn cp rc dd kp) H → va_S (fun _ => False) s.heap H locs → lv_has ls 3 [(0, .ref (b 0)), (1, .int (nI f)), (2, .int qv)] → W p l e ({ frames := 0, cells := 0, slots := 0, locals := 0 } : Room) s m ([.ref (b 0)] : List Value).toArray below meth c H locs 0 0 (MQ below (go_pQi (fun r => ∃ F, r = nI F ∧ F < 49 ∧ Z F ∧ ∀ j, j < F → ¬ Z j)) ([.ref (b 0)] : List Value).toArray s 0 0 (fun _ => False)) (F0 m 6 ls []) := by
    intro n
    induction n with
    | zero =>
      intro k1 f qv  hn hk hF hqv
      exact absurd hn (by omega)
    | succ n ih =>
      intro k1 f qv  hn hk hF hqv H locs ls hP hS hl
      refine lv_iload_n hx hb dX1_firstReached_6 rfl (lv_at hl 2 rfl) ?_
      refine lv_if_lt (tgt := 31) hx hb dX1_firstReached_7 (by decide) (fun c7 => ?_) (fun c7 => ?_)
      · obtain rfl : k1 = 0 := by
          rcases hqv with ⟨h, _⟩ | ⟨k, _, e⟩
          · exact h
          · rw [e] at c7; exact absurd c7 (nI_pos (by omega))
        refine lv_iload_n hx hb dX1_firstReached_31 rfl (lv_at hl 1 rfl) ?_
        refine go_pri X hS dX1_firstReached_32 ?_
        obtain ⟨h1, h2⟩ := hF
        rcases h2 with ⟨_, h3, h4⟩ | h2
        · exact ⟨f, rfl, h1, h3, fun j hj => h4 j (Nat.zero_le j) hj⟩
        · obtain ⟨j, g1, g2⟩ := hne
          exact absurd g2 (h2 j (Nat.zero_le j) g1)
      · obtain ⟨k, rfl, rfl⟩ : ∃ k, k1 = k + 1 ∧ qv = nI k := by
          rcases hqv with ⟨_, e⟩ | h
          · exact absurd (by rw [e]; decide) c7
          · exact h
        have hk9 : k < 49 := by omega
        refine lv_aload_n hx hb dX1_firstReached_10 rfl (lv_at hl 0 rfl) ?_
        refine va_get (D := D) (ci := 1) (v := .ref (b 6)) (C := RX1) (T := TX1) (N := 9) hx hb hts in_X1 hown hK hP 0 rfl rfl 6 (by decide) (hts _ q200) (fun _ h9 => h9) rfl dX1_firstReached_11 ?_
        refine lv_iload_n hx hb dX1_firstReached_14 rfl (lv_at hl 2 rfl) ?_
        refine go_zld hx hb hK hP 6 5 rfl rfl k (rfl) (by omega) (by decide) dX1_firstReached_15 ?_
        refine lv_if_eq (tgt := 23) hx hb dX1_firstReached_16 (by decide) (fun c16 => ?_) (fun c16 => ?_)
        · refine lv_iload_n hx hb dX1_firstReached_23 rfl (lv_at hl 1 rfl) ?_
          refine lv_istore_n (lv' := [(1, .int (nI f)), (0, .ref (b 0)), (2, .int (nI k))]) hx hb dX1_firstReached_24 rfl hl (by decide) rfl (fun ls hl => ?_)
          obtain ⟨qv2, eqv2⟩ : ∃ y : Int32, y = nI k + Int32.ofInt (-1) := ⟨_, rfl⟩
          have heq2 : (k = 0 ∧ qv2 = -1) ∨ (∃ k2, k = k2 + 1 ∧ qv2 = nI k2) := by
            cases k with
            | zero => exact Or.inl ⟨rfl, by rw [eqv2]; decide⟩
            | succ k2 => exact Or.inr ⟨k2, rfl, by rw [eqv2]; exact pk_m1 k2⟩
          refine lv_iinc (v := qv2) (lv' := [(2, .int qv2), (1, .int (nI f)), (0, .ref (b 0))]) hx hb dX1_firstReached_25 hl (k := 2) rfl (eqv2.symm) (by decide) rfl (fun ls hl => ?_)
          refine lv_goto (tgt := 6) hx hb dX1_firstReached_28 (by decide) ?_
          exact ih k f qv2 (by omega) (by omega) (go_fI_n hF ((go_z_nz (hZ k hk9)).1 c16)) heq2 _ _ _ hP hS (lv_sub hl [2, 1, 0] rfl)
        · refine lv_iload_n hx hb dX1_firstReached_19 rfl (lv_at hl 2 rfl) ?_
          refine lv_goto (tgt := 24) hx hb dX1_firstReached_20 (by decide) ?_
          refine lv_istore_n (lv' := [(1, .int (nI k)), (0, .ref (b 0)), (2, .int (nI k))]) hx hb dX1_firstReached_24 rfl hl (by decide) rfl (fun ls hl => ?_)
          obtain ⟨qv2, eqv2⟩ : ∃ y : Int32, y = nI k + Int32.ofInt (-1) := ⟨_, rfl⟩
          have heq2 : (k = 0 ∧ qv2 = -1) ∨ (∃ k2, k = k2 + 1 ∧ qv2 = nI k2) := by
            cases k with
            | zero => exact Or.inl ⟨rfl, by rw [eqv2]; decide⟩
            | succ k2 => exact Or.inr ⟨k2, rfl, by rw [eqv2]; exact pk_m1 k2⟩
          refine lv_iinc (v := qv2) (lv' := [(2, .int qv2), (1, .int (nI k)), (0, .ref (b 0))]) hx hb dX1_firstReached_25 hl (k := 2) rfl (eqv2.symm) (by decide) rfl (fun ls hl => ?_)
          refine lv_goto (tgt := 6) hx hb dX1_firstReached_28 (by decide) ?_
          exact ih k k qv2 (by omega) (by omega) (go_fI_y hk9 ((go_z_nz (hZ k hk9)).2 c16)) heq2 _ _ _ hP hS (lv_sub hl [2, 1, 0] rfl)
  refine lv_bipush (v := nI 48) hx hb dX1_firstReached_0 (by decide) ?_
  refine lv_istore_n (lv' := [(1, .int (nI 48)), (0, .ref (b 0))]) hx hb dX1_firstReached_2 rfl hl (by decide) rfl (fun ls hl => ?_)
  refine lv_bipush (v := nI 48) hx hb dX1_firstReached_3 (by decide) ?_
  refine lv_istore_n (lv' := [(2, .int (nI 48)), (1, .int (nI 48)), (0, .ref (b 0))]) hx hb dX1_firstReached_5 rfl hl (by decide) rfl (fun ls hl => ?_)
  exact lp6 50 49 48 (nI 48) (by omega) (by omega) ⟨by decide, Or.inr (fun j h1 h2 => by omega)⟩ (Or.inr ⟨48, rfl, rfl⟩) _ _ _ hP hS (lv_sub hl [2, 1, 0] rfl)
set_option maxHeartbeats 4000000 in
set_option maxRecDepth 100000 in
theorem gX1_touches (P : Nat)  (hP9 : P < 2) (hB : go_ba bd B) (hB2 : go_b2 B) (hZ : go_za rc Z) : Met l yX1_touches (ws_ yX1_touches cX1_touches 3 (some .boolean)) ({ frames := 2, cells := 0, slots := 0, locals := 47 } : Room) (go_pP D (go_M b cs bd hi hf hs dn cp rc dd kp) (go_Mt cs) [.ref (b 0), .int (nI P)]) (go_pQi (fun r => (r = nI 1 ∧ ∃ j i, (j < 49 ∧ Z j) ∧ go_ad j i ∧ B i = P) ∨ (r = nI 0 ∧ ¬ ∃ j i, (j < 49 ∧ Z j) ∧ go_ad j i ∧ B i = P))) 0 0 (fun _ => False) := by
  refine go_pMet (by decide) (Nat.le_of_ble_eq_true rfl) ?_
  intro p e s m below meth c ls X hK hP hS hl
  have hl : lv_has ls 3 [(0, .ref (b 0)), (1, .int (nI P))] := hl
  obtain ⟨hx, hb, hml, hr, hlocks, hown, hts⟩ := id X
  have hP : va_P D go_cl (go_M b cs bd hi hf hs dn cp rc dd kp) s.heap := hP
  have lp2 : ∀ (n : Nat) (k : Nat) , 50 ≤ k + n → k ≤ 49 → (∀ j, j < k → Z j → ∀ i, go_ad j i → ¬ B i = P) → ∀ (H : Heap) (locs : List Loc) (ls : Array Slot), va_P D go_cl (go_M b cs bd hi hf hs dn cp rc dd kp) H → va_S (fun _ => False) s.heap H locs → lv_has ls 3 [(0, .ref (b 0)), (1, .int (nI P)), (2, .int (nI k))] → W p l e ({ frames := 2, cells := 0, slots := 0, locals := 47 } : Room) s m ([.ref (b 0), .int (nI P)] : List Value).toArray below meth c H locs 0 0 (MQ below (go_pQi (fun r => (r = nI 1 ∧ ∃ j i, (j < 49 ∧ Z j) ∧ go_ad j i ∧ B i = P) ∨ (r = nI 0 ∧ ¬ ∃ j i, (j < 49 ∧ Z j) ∧ go_ad j i ∧ B i = P))) ([.ref (b 0), .int (nI P)] : List Value).toArray s 0 0 (fun _ => False)) (F0 m 2 ls []) := by
    intro n
    induction n with
    | zero =>
      intro k  hn hk hno
      exact absurd hn (by omega)
    | succ n ih =>
      intro k  hn hk hno H locs ls hP hS hl
      refine lv_iload_n hx hb dX1_touches_2 rfl (lv_at hl 2 rfl) ?_
      refine lv_bipush (v := nI 49) hx hb dX1_touches_3 (by decide) ?_
      refine lv_icmp_ge (tgt := 35) hx hb dX1_touches_5 (by decide) (fun c5 => ?_) (fun c5 => ?_)
      · have c5 : 49 ≤ k := (nI_leI (a := 49) (b := k) (by omega) (by omega)).mp c5
        refine lv_iconst (v := nI 0) hx hb dX1_touches_35 (by decide) ?_
        refine go_prz X hS dX1_touches_36 rfl ?_
        exact Or.inr ⟨rfl, fun ⟨j, i, g1, g2, g3⟩ => hno j (by omega) g1.2 i g2 g3⟩
      · have c5 : ¬ 49 ≤ k := fun h => c5 ((nI_leI (a := 49) (b := k) (by omega) (by omega)).mpr h)
        have hk9 : k < 49 := by omega
        refine lv_aload_n hx hb dX1_touches_8 rfl (lv_at hl 0 rfl) ?_
        refine va_get (D := D) (ci := 1) (v := .ref (b 6)) (C := RX1) (T := TX1) (N := 9) hx hb hts in_X1 hown hK hP 0 rfl rfl 6 (by decide) (hts _ q200) (fun _ h9 => h9) rfl dX1_touches_9 ?_
        refine lv_iload_n hx hb dX1_touches_12 rfl (lv_at hl 2 rfl) ?_
        refine go_zld hx hb hK hP 6 5 rfl rfl k (rfl) (by omega) (by decide) dX1_touches_13 ?_
        refine lv_if_eq (tgt := 29) hx hb dX1_touches_14 (by decide) (fun c14 => ?_) (fun c14 => ?_)
        · refine lv_iinc (v := nI (k + 1)) (lv' := [(2, .int (nI (k + 1))), (0, .ref (b 0)), (1, .int (nI P))]) hx hb dX1_touches_29 hl (k := 2) rfl (nI_add k 1) (by decide) rfl (fun ls hl => ?_)
          refine lv_goto (tgt := 2) hx hb dX1_touches_32 (by decide) ?_
          exact ih (k + 1) (by omega) (by omega) (fun j hj => by
            by_cases cd : j = k
            · rw [cd]; exact fun h _ _ _ => absurd h ((go_z_nz (hZ k hk9)).1 c14)
            · exact hno j (by omega)) _ _ _ hP hS (lv_sub hl [1, 2, 0] rfl)
        · refine lv_aload_n hx hb dX1_touches_17 rfl (lv_at hl 0 rfl) ?_
          refine lv_iload_n hx hb dX1_touches_18 rfl (lv_at hl 2 rfl) ?_
          refine lv_iload_n hx hb dX1_touches_19 rfl (lv_at hl 1 rfl) ?_
          refine lv_iconst (v := nI 0) hx hb dX1_touches_20 (by decide) ?_
          refine go_pcI (As := [.int (nI k), .int (nI P), .int (nI 0)]) (rest := []) X (gX1_besides k P (nI P) (nI 0) hk9 (by omega) rfl hB hB2) (cwV 3 hts (lw_V q247 q249 qs17 q27 q250) rfl rfl rfl (by decide +kernel) ⟨Nat.le_of_ble_eq_true rfl, Nat.le_of_ble_eq_true rfl⟩) hK hP (va_recv hK hP (ci := 1) (q0 := 0) rfl rfl) rfl rfl hl.1 (Nat.le_of_ble_eq_true rfl) dX1_touches_21 ⟨Nat.zero_le _, Nat.zero_le _⟩ hS (fun r21 H1 locs p21 hk hS => ?_)
          have hP := hk _ hP
          clear hk
          generalize H1 = H at hP hS ⊢
          refine lv_if_eq (tgt := 29) hx hb dX1_touches_24 (by decide) (fun c24 => ?_) (fun c24 => ?_)
          · refine lv_iinc (v := nI (k + 1)) (lv' := [(2, .int (nI (k + 1))), (0, .ref (b 0)), (1, .int (nI P))]) hx hb dX1_touches_29 hl (k := 2) rfl (nI_add k 1) (by decide) rfl (fun ls hl => ?_)
            refine lv_goto (tgt := 2) hx hb dX1_touches_32 (by decide) ?_
            exact ih (k + 1) (by omega) (by omega) (fun j hj => by
              by_cases cd : j = k
              · rw [cd]; exact fun _ i g1 g2 => (go_bo p21).1 c24 ⟨i, g1, g2, Or.inl rfl⟩
              · exact hno j (by omega)) _ _ _ hP hS (lv_sub hl [1, 2, 0] rfl)
          · refine lv_iconst (v := nI 1) hx hb dX1_touches_27 (by decide) ?_
            refine go_prz X hS dX1_touches_28 rfl ?_
            obtain ⟨i, g1, g2, _⟩ := (go_bo p21).2 c24
            exact Or.inl ⟨rfl, k, i, ⟨hk9, (go_z_nz (hZ k hk9)).2 c14⟩, g1, g2⟩
  refine lv_iconst (v := nI 0) hx hb dX1_touches_0 (by decide) ?_
  refine lv_istore_n (lv' := [(2, .int (nI 0)), (0, .ref (b 0)), (1, .int (nI P))]) hx hb dX1_touches_1 rfl hl (by decide) rfl (fun ls hl => ?_)
  exact lp2 50 0 (by omega) (by omega) (fun j h => absurd h (Nat.not_lt_zero j)) _ _ _ hP hS (lv_sub hl [1, 2, 0] rfl)
set_option maxHeartbeats 4000000 in
set_option maxRecDepth 100000 in
theorem gX1_isAsBefore (I9 : Nat)  (hI9 : I9 < 40) : Met l yX1_isAsBefore (ws_ yX1_isAsBefore cX1_isAsBefore 3 (some .boolean)) ({ frames := 0, cells := 0, slots := 0, locals := 0 } : Room) (go_pP D (go_M b cs bd hi hf hs dn cp rc dd kp) (go_Mt cs) [.ref (b 0), .int (nI I9)]) (go_pQi (fun r => (r = nI 1 ∧ ∀ j, j < 49 → bd j = hi (49 * I9 + j)) ∨ (r = nI 0 ∧ ¬ ∀ j, j < 49 → bd j = hi (49 * I9 + j)))) 0 0 (fun _ => False) := by
  refine go_pMet (by decide) (Nat.le_of_ble_eq_true rfl) ?_
  intro p e s m below meth c ls X hK hP hS hl
  have hl : lv_has ls 3 [(0, .ref (b 0)), (1, .int (nI I9))] := hl
  obtain ⟨hx, hb, hml, hr, hlocks, hown, hts⟩ := id X
  have hP : va_P D go_cl (go_M b cs bd hi hf hs dn cp rc dd kp) s.heap := hP
  have lp2 : ∀ (n : Nat) (k : Nat) , 50 ≤ k + n → k ≤ 49 → (∀ j, j < k → bd j = hi (49 * I9 + j)) → ∀ (H : Heap) (locs : List Loc) (ls : Array Slot), va_P D go_cl (go_M b cs bd hi hf hs dn cp rc dd kp) H → va_S (fun _ => False) s.heap H locs → lv_has ls 3 [(0, .ref (b 0)), (1, .int (nI I9)), (2, .int (nI k))] → W p l e ({ frames := 0, cells := 0, slots := 0, locals := 0 } : Room) s m ([.ref (b 0), .int (nI I9)] : List Value).toArray below meth c H locs 0 0 (MQ below (go_pQi (fun r => (r = nI 1 ∧ ∀ j, j < 49 → bd j = hi (49 * I9 + j)) ∨ (r = nI 0 ∧ ¬ ∀ j, j < 49 → bd j = hi (49 * I9 + j)))) ([.ref (b 0), .int (nI I9)] : List Value).toArray s 0 0 (fun _ => False)) (F0 m 2 ls []) := by
    intro n
    induction n with
    | zero =>
      intro k  hn hk hyes
      exact absurd hn (by omega)
    | succ n ih =>
      intro k  hn hk hyes H locs ls hP hS hl
      refine lv_iload_n hx hb dX1_isAsBefore_2 rfl (lv_at hl 2 rfl) ?_
      refine lv_bipush (v := nI 49) hx hb dX1_isAsBefore_3 (by decide) ?_
      refine lv_icmp_ge (tgt := 36) hx hb dX1_isAsBefore_5 (by decide) (fun c5 => ?_) (fun c5 => ?_)
      · have c5 : 49 ≤ k := (nI_leI (a := 49) (b := k) (by omega) (by omega)).mp c5
        refine lv_iconst (v := nI 1) hx hb dX1_isAsBefore_36 (by decide) ?_
        refine go_prz X hS dX1_isAsBefore_37 rfl ?_
        exact Or.inl ⟨rfl, fun j hj => hyes j (by omega)⟩
      · have c5 : ¬ 49 ≤ k := fun h => c5 ((nI_leI (a := 49) (b := k) (by omega) (by omega)).mpr h)
        refine lv_aload_n hx hb dX1_isAsBefore_8 rfl (lv_at hl 0 rfl) ?_
        refine va_get (D := D) (ci := 1) (v := .ref (b 1)) (C := RX1) (T := TX1) (N := 9) hx hb hts in_X1 hown hK hP 0 rfl rfl 0 (by decide) (hts _ q194) (fun _ h9 => h9) rfl dX1_isAsBefore_9 ?_
        refine lv_iload_n hx hb dX1_isAsBefore_12 rfl (lv_at hl 2 rfl) ?_
        refine go_ild hx hb hK hP 1 0 rfl rfl k (rfl) (by omega) (by decide) dX1_isAsBefore_13 ?_
        refine lv_aload_n hx hb dX1_isAsBefore_14 rfl (lv_at hl 0 rfl) ?_
        refine va_get (D := D) (ci := 1) (v := .ref (b 2)) (C := RX1) (T := TX1) (N := 9) hx hb hts in_X1 hown hK hP 0 rfl rfl 1 (by decide) (hts _ q195) (fun _ h9 => h9) rfl dX1_isAsBefore_15 ?_
        refine lv_bipush (v := nI 49) hx hb dX1_isAsBefore_18 (by decide) ?_
        refine lv_iload_n hx hb dX1_isAsBefore_20 rfl (lv_at hl 1 rfl) ?_
        refine lv_imul hx hb dX1_isAsBefore_21 ?_
        refine lv_topi (fun v21 e21 => ?_)
        obtain rfl : v21 = nI (49 * I9) := e21.trans (pk_mul 49 I9)
        refine lv_iload_n hx hb dX1_isAsBefore_22 rfl (lv_at hl 2 rfl) ?_
        refine lv_iadd hx hb dX1_isAsBefore_23 ?_
        refine lv_topi (fun v23 e23 => ?_)
        obtain rfl : v23 = nI (49 * I9 + k) := e23.trans (nI_add _ _)
        refine go_ild hx hb hK hP 2 1 rfl rfl (49 * I9 + k) (rfl) (by omega) (by decide) dX1_isAsBefore_24 ?_
        refine lv_icmp_eq (tgt := 30) hx hb dX1_isAsBefore_25 (by decide) (fun c25 => ?_) (fun c25 => ?_)
        · refine lv_iinc (v := nI (k + 1)) (lv' := [(2, .int (nI (k + 1))), (0, .ref (b 0)), (1, .int (nI I9))]) hx hb dX1_isAsBefore_30 hl (k := 2) rfl (nI_add k 1) (by decide) rfl (fun ls hl => ?_)
          refine lv_goto (tgt := 2) hx hb dX1_isAsBefore_33 (by decide) ?_
          exact ih (k + 1) (by omega) (by omega) (fun j hj => by
            by_cases cd : j = k
            · rw [cd]; exact c25
            · exact hyes j (by omega)) _ _ _ hP hS (lv_sub hl [1, 2, 0] rfl)
        · refine lv_iconst (v := nI 0) hx hb dX1_isAsBefore_28 (by decide) ?_
          refine go_prz X hS dX1_isAsBefore_29 rfl ?_
          exact Or.inr ⟨rfl, fun h => c25 (h k (by omega))⟩
  refine lv_iconst (v := nI 0) hx hb dX1_isAsBefore_0 (by decide) ?_
  refine lv_istore_n (lv' := [(2, .int (nI 0)), (0, .ref (b 0)), (1, .int (nI I9))]) hx hb dX1_isAsBefore_1 rfl hl (by decide) rfl (fun ls hl => ?_)
  exact lp2 50 0 (by omega) (by omega) (fun j h => absurd h (Nat.not_lt_zero j)) _ _ _ hP hS (lv_sub hl [1, 2, 0] rfl)
set_option maxHeartbeats 4000000 in
set_option maxRecDepth 100000 in
theorem gX1_putBack    : ∀ sz : Nat, Met l yX1_putBack (ws_ yX1_putBack cX1_putBack 2 none) ({ frames := 0, cells := 0, slots := 0, locals := 0 } : Room) (go_mP D (go_M b cs bd hi hf hs dn cp rc dd kp) (go_Mt cs) sz [.ref (b 0)]) (go_mQv (fun (bd' : (Nat → Int32)) => ∀ j, j < 49 → bd' j = kp j) D (go_Mt cs) (fun bd' : (Nat → Int32) => go_M b cs bd' hi hf hs dn cp rc dd kp) (va_A (go_M b cs bd hi hf hs dn cp rc dd kp) sz)) 0 0 (va_A (go_M b cs bd hi hf hs dn cp rc dd kp) sz) := by
  refine go_mMet (Qf := fun A => go_mQv (fun (bd' : (Nat → Int32)) => ∀ j, j < 49 → bd' j = kp j) D (go_Mt cs) (fun bd' : (Nat → Int32) => go_M b cs bd' hi hf hs dn cp rc dd kp) A) (by decide) (Nat.le_of_ble_eq_true rfl) ?_
  intro p e s m below meth c ls A X hK hP hD hA hS hl
  have hl : lv_has ls 2 [(0, .ref (b 0))] := hl
  obtain ⟨hx, hb, hml, hr, hlocks, hown, hts⟩ := id X
  have hP : va_P D go_cl (go_M b cs bd hi hf hs dn cp rc dd kp) s.heap := hP
  have lp2 : ∀ (n : Nat) (k : Nat) (xbd : (Nat → Int32)), 50 ≤ k + n → k ≤ 49 → (∀ j, j < k → xbd j = kp j) → ∀ (H : Heap) (locs : List Loc) (ls : Array Slot), va_P D go_cl (go_M b cs xbd hi hf hs dn cp rc dd kp) H → va_D A (go_M b cs xbd hi hf hs dn cp rc dd kp) → va_S A s.heap H locs → lv_has ls 2 [(0, .ref (b 0)), (1, .int (nI k))] → W p l e ({ frames := 0, cells := 0, slots := 0, locals := 0 } : Room) s m ([.ref (b 0)] : List Value).toArray below meth c H locs 0 0 (MQ below (go_mQv (fun (bd' : (Nat → Int32)) => ∀ j, j < 49 → bd' j = kp j) D (go_Mt cs) (fun bd' : (Nat → Int32) => go_M b cs bd' hi hf hs dn cp rc dd kp) A) ([.ref (b 0)] : List Value).toArray s 0 0 A) (F0 m 2 ls []) := by
    intro n
    induction n with
    | zero =>
      intro k xbd hn hk hz
      exact absurd hn (by omega)
    | succ n ih =>
      intro k xbd hn hk hz H locs ls hP hD hS hl
      refine lv_iload_n hx hb dX1_putBack_2 rfl (lv_at hl 1 rfl) ?_
      refine lv_bipush (v := nI 49) hx hb dX1_putBack_3 (by decide) ?_
      refine lv_icmp_ge (tgt := 26) hx hb dX1_putBack_5 (by decide) (fun c5 => ?_) (fun c5 => ?_)
      · have c5 : 49 ≤ k := (nI_leI (a := 49) (b := k) (by omega) (by omega)).mp c5
        refine go_mrv X hK hS (xbd) hP hD dX1_putBack_26 ?_
        exact fun j hj => hz j (by omega)
      · have c5 : ¬ 49 ≤ k := fun h => c5 ((nI_leI (a := 49) (b := k) (by omega) (by omega)).mpr h)
        refine lv_aload_n hx hb dX1_putBack_8 rfl (lv_at hl 0 rfl) ?_
        refine va_get (D := D) (ci := 1) (v := .ref (b 1)) (C := RX1) (T := TX1) (N := 9) hx hb hts in_X1 hown hK hP 0 rfl rfl 0 (by decide) (hts _ q194) (fun _ h9 => h9) rfl dX1_putBack_9 ?_
        refine lv_iload_n hx hb dX1_putBack_12 rfl (lv_at hl 1 rfl) ?_
        refine lv_aload_n hx hb dX1_putBack_13 rfl (lv_at hl 0 rfl) ?_
        refine va_get (D := D) (ci := 1) (v := .ref (b 8)) (C := RX1) (T := TX1) (N := 9) hx hb hts in_X1 hown hK hP 0 rfl rfl 8 (by decide) (hts _ q202) (fun _ h9 => h9) rfl dX1_putBack_14 ?_
        refine lv_iload_n hx hb dX1_putBack_17 rfl (lv_at hl 1 rfl) ?_
        refine go_ild hx hb hK hP 8 7 rfl rfl k (rfl) (by omega) (by decide) dX1_putBack_18 ?_
        refine go_ist hx hb hK hP hD hS 1 0 rfl rfl k (rfl) (by omega) (by decide) dX1_putBack_19 (fun bd_19 H locs ebd_19 hP hD hS => ?_)
        have hP : va_P D go_cl (go_M b cs bd_19 hi hf hs dn cp rc dd kp) H := hP
        have hD : va_D A (go_M b cs bd_19 hi hf hs dn cp rc dd kp) := hD
        refine lv_iinc (v := nI (k + 1)) (lv' := [(1, .int (nI (k + 1))), (0, .ref (b 0))]) hx hb dX1_putBack_20 hl (k := 1) rfl (nI_add k 1) (by decide) rfl (fun ls hl => ?_)
        refine lv_goto (tgt := 2) hx hb dX1_putBack_23 (by decide) ?_
        exact ih (k + 1) bd_19 (by omega) (by omega) (go_fill (g := kp) hz ebd_19 rfl) _ _ _ hP hD hS (lv_sub hl [1, 0] rfl)
  refine lv_iconst (v := nI 0) hx hb dX1_putBack_0 (by decide) ?_
  refine lv_istore_n (lv' := [(1, .int (nI 0)), (0, .ref (b 0))]) hx hb dX1_putBack_1 rfl hl (by decide) rfl (fun ls hl => ?_)
  exact lp2 50 0 bd (by omega) (by omega) (fun j h => absurd h (Nat.not_lt_zero j)) _ _ _ hP hD hS (lv_sub hl [1, 0] rfl)
set_option maxHeartbeats 4000000 in
set_option maxRecDepth 100000 in
theorem gX1_note   (N : Nat) (hN : N < 40) (hdn : dn = nI N) : ∀ sz : Nat, Met l yX1_note (ws_ yX1_note cX1_note 2 none) ({ frames := 0, cells := 0, slots := 0, locals := 0 } : Room) (go_mP D (go_M b cs bd hi hf hs dn cp rc dd kp) (go_Mt cs) sz [.ref (b 0)]) (go_mQv (fun (u : (Nat → Int32) × (Nat → Int32) × (Nat → Int32) × Int32) => match u with | (hi', hf', hs', dn') => dn' = nI (N + 1) ∧ (∀ j, j < 49 → hi' (49 * N + j) = kp j) ∧ (∀ x, x < 49 * N → hi' x = hi x) ∧ hf' = upd hf N (cp 0) ∧ hs' = upd hs N (cp 1)) D (go_Mt cs) (fun u : (Nat → Int32) × (Nat → Int32) × (Nat → Int32) × Int32 => match u with | (hi', hf', hs', dn') => go_M b cs bd hi' hf' hs' dn' cp rc dd kp) (va_A (go_M b cs bd hi hf hs dn cp rc dd kp) sz)) 0 0 (va_A (go_M b cs bd hi hf hs dn cp rc dd kp) sz) := by
  refine go_mMet (Qf := fun A => go_mQv (fun (u : (Nat → Int32) × (Nat → Int32) × (Nat → Int32) × Int32) => match u with | (hi', hf', hs', dn') => dn' = nI (N + 1) ∧ (∀ j, j < 49 → hi' (49 * N + j) = kp j) ∧ (∀ x, x < 49 * N → hi' x = hi x) ∧ hf' = upd hf N (cp 0) ∧ hs' = upd hs N (cp 1)) D (go_Mt cs) (fun u : (Nat → Int32) × (Nat → Int32) × (Nat → Int32) × Int32 => match u with | (hi', hf', hs', dn') => go_M b cs bd hi' hf' hs' dn' cp rc dd kp) A) (by decide) (Nat.le_of_ble_eq_true rfl) ?_
  intro p e s m below meth c ls A X hK hP hD hA hS hl
  have hl : lv_has ls 2 [(0, .ref (b 0))] := hl
  obtain ⟨hx, hb, hml, hr, hlocks, hown, hts⟩ := id X
  have hP : va_P D go_cl (go_M b cs bd hi hf hs dn cp rc dd kp) s.heap := hP
  have lp2 : ∀ (n : Nat) (k : Nat) (xhi : (Nat → Int32)), 50 ≤ k + n → k ≤ 49 → (∀ j, j < k → xhi (49 * N + j) = kp j) → (∀ x, x < 49 * N → xhi x = hi x) → ∀ (H : Heap) (locs : List Loc) (ls : Array Slot), va_P D go_cl (go_M b cs bd xhi hf hs dn cp rc dd kp) H → va_D A (go_M b cs bd xhi hf hs dn cp rc dd kp) → va_S A s.heap H locs → lv_has ls 2 [(0, .ref (b 0)), (1, .int (nI k))] → W p l e ({ frames := 0, cells := 0, slots := 0, locals := 0 } : Room) s m ([.ref (b 0)] : List Value).toArray below meth c H locs 0 0 (MQ below (go_mQv (fun (u : (Nat → Int32) × (Nat → Int32) × (Nat → Int32) × Int32) => match u with | (hi', hf', hs', dn') => dn' = nI (N + 1) ∧ (∀ j, j < 49 → hi' (49 * N + j) = kp j) ∧ (∀ x, x < 49 * N → hi' x = hi x) ∧ hf' = upd hf N (cp 0) ∧ hs' = upd hs N (cp 1)) D (go_Mt cs) (fun u : (Nat → Int32) × (Nat → Int32) × (Nat → Int32) × Int32 => match u with | (hi', hf', hs', dn') => go_M b cs bd hi' hf' hs' dn' cp rc dd kp) A) ([.ref (b 0)] : List Value).toArray s 0 0 A) (F0 m 2 ls []) := by
    intro n
    induction n with
    | zero =>
      intro k xhi hn hk hz hz2
      exact absurd hn (by omega)
    | succ n ih =>
      intro k xhi hn hk hz hz2 H locs ls hP hD hS hl
      refine lv_iload_n hx hb dX1_note_2 rfl (lv_at hl 1 rfl) ?_
      refine lv_bipush (v := nI 49) hx hb dX1_note_3 (by decide) ?_
      refine lv_icmp_ge (tgt := 34) hx hb dX1_note_5 (by decide) (fun c5 => ?_) (fun c5 => ?_)
      · have c5 : 49 ≤ k := (nI_leI (a := 49) (b := k) (by omega) (by omega)).mp c5
        refine lv_aload_n hx hb dX1_note_34 rfl (lv_at hl 0 rfl) ?_
        refine va_get (D := D) (ci := 1) (v := .ref (b 3)) (C := RX1) (T := TX1) (N := 9) hx hb hts in_X1 hown hK hP 0 rfl rfl 2 (by decide) (hts _ q196) (fun _ h9 => h9) rfl dX1_note_35 ?_
        refine lv_aload_n hx hb dX1_note_38 rfl (lv_at hl 0 rfl) ?_
        refine va_get (D := D) (ci := 1) (v := .int dn) (C := RX1) (T := TX1) (N := 9) hx hb hts in_X1 hown hK hP 0 rfl rfl 4 (by decide) (hts _ q198) (fun _ h9 => h9) rfl dX1_note_39 ?_
        refine lv_aload_n hx hb dX1_note_42 rfl (lv_at hl 0 rfl) ?_
        refine va_get (D := D) (ci := 1) (v := .ref (b 5)) (C := RX1) (T := TX1) (N := 9) hx hb hts in_X1 hown hK hP 0 rfl rfl 5 (by decide) (hts _ q199) (fun _ h9 => h9) rfl dX1_note_43 ?_
        refine lv_iconst (v := nI 0) hx hb dX1_note_46 (by decide) ?_
        refine go_ild hx hb hK hP 5 4 rfl rfl 0 (rfl) (by decide) (by decide) dX1_note_47 ?_
        refine go_ist hx hb hK hP hD hS 3 2 rfl rfl N (hdn) (hN) (by decide) dX1_note_48 (fun hf_48 H locs ehf_48 hP hD hS => ?_)
        have hP : va_P D go_cl (go_M b cs bd xhi hf_48 hs dn cp rc dd kp) H := hP
        have hD : va_D A (go_M b cs bd xhi hf_48 hs dn cp rc dd kp) := hD
        refine lv_aload_n hx hb dX1_note_49 rfl (lv_at hl 0 rfl) ?_
        refine va_get (D := D) (ci := 1) (v := .ref (b 4)) (C := RX1) (T := TX1) (N := 9) hx hb hts in_X1 hown hK hP 0 rfl rfl 3 (by decide) (hts _ q197) (fun _ h9 => h9) rfl dX1_note_50 ?_
        refine lv_aload_n hx hb dX1_note_53 rfl (lv_at hl 0 rfl) ?_
        refine va_get (D := D) (ci := 1) (v := .int dn) (C := RX1) (T := TX1) (N := 9) hx hb hts in_X1 hown hK hP 0 rfl rfl 4 (by decide) (hts _ q198) (fun _ h9 => h9) rfl dX1_note_54 ?_
        refine lv_aload_n hx hb dX1_note_57 rfl (lv_at hl 0 rfl) ?_
        refine va_get (D := D) (ci := 1) (v := .ref (b 5)) (C := RX1) (T := TX1) (N := 9) hx hb hts in_X1 hown hK hP 0 rfl rfl 5 (by decide) (hts _ q199) (fun _ h9 => h9) rfl dX1_note_58 ?_
        refine lv_iconst (v := nI 1) hx hb dX1_note_61 (by decide) ?_
        refine go_ild hx hb hK hP 5 4 rfl rfl 1 (rfl) (by decide) (by decide) dX1_note_62 ?_
        refine go_ist hx hb hK hP hD hS 4 3 rfl rfl N (hdn) (hN) (by decide) dX1_note_63 (fun hs_63 H locs ehs_63 hP hD hS => ?_)
        have hP : va_P D go_cl (go_M b cs bd xhi hf_48 hs_63 dn cp rc dd kp) H := hP
        have hD : va_D A (go_M b cs bd xhi hf_48 hs_63 dn cp rc dd kp) := hD
        refine lv_aload_n hx hb dX1_note_64 rfl (lv_at hl 0 rfl) ?_
        refine lv_dup hx hb dX1_note_65 rfl ?_
        refine va_get (D := D) (ci := 1) (v := .int dn) (C := RX1) (T := TX1) (N := 9) hx hb hts in_X1 hown hK hP 0 rfl rfl 4 (by decide) (hts _ q198) (fun _ h9 => h9) rfl dX1_note_66 ?_
        refine lv_iconst (v := nI 1) hx hb dX1_note_69 (by decide) ?_
        refine lv_iadd hx hb dX1_note_70 ?_
        refine lv_topi (fun v70 e70 => ?_)
        obtain rfl : v70 = nI (N + 1) := e70.trans (by rw [hdn]; exact nI_add N 1)
        refine va_put (D := D) (ci := 1) (v := .int (nI (N + 1))) (ty := .int) (C := RX1) (T := TX1) (N := 9) hx hb hts in_X1 tyX1 tyX1_ok nmX1 hown hK hP hD hS 0 rfl rfl 4 (by decide) (hts _ q198) (fun _ h9 => h9) rfl (by decide +kernel) rfl rfl (Nat.le_of_ble_eq_true rfl) dX1_note_71 (fun H locs hP hD hS => ?_)
        have hP : va_P D go_cl (go_M b cs bd xhi hf_48 hs_63 (nI (N + 1)) cp rc dd kp) H := hP
        have hD : va_D A (go_M b cs bd xhi hf_48 hs_63 (nI (N + 1)) cp rc dd kp) := hD
        refine go_mrv X hK hS ((xhi, hf_48, hs_63, nI (N + 1))) hP hD dX1_note_74 ?_
        exact ⟨rfl, fun j hj => hz j (by omega), hz2, ehf_48, ehs_63⟩
      · have c5 : ¬ 49 ≤ k := fun h => c5 ((nI_leI (a := 49) (b := k) (by omega) (by omega)).mpr h)
        refine lv_aload_n hx hb dX1_note_8 rfl (lv_at hl 0 rfl) ?_
        refine va_get (D := D) (ci := 1) (v := .ref (b 2)) (C := RX1) (T := TX1) (N := 9) hx hb hts in_X1 hown hK hP 0 rfl rfl 1 (by decide) (hts _ q195) (fun _ h9 => h9) rfl dX1_note_9 ?_
        refine lv_bipush (v := nI 49) hx hb dX1_note_12 (by decide) ?_
        refine lv_aload_n hx hb dX1_note_14 rfl (lv_at hl 0 rfl) ?_
        refine va_get (D := D) (ci := 1) (v := .int dn) (C := RX1) (T := TX1) (N := 9) hx hb hts in_X1 hown hK hP 0 rfl rfl 4 (by decide) (hts _ q198) (fun _ h9 => h9) rfl dX1_note_15 ?_
        refine lv_imul hx hb dX1_note_18 ?_
        refine lv_topi (fun v18 e18 => ?_)
        obtain rfl : v18 = nI (49 * N) := e18.trans (by rw [hdn]; exact pk_mul 49 N)
        refine lv_iload_n hx hb dX1_note_19 rfl (lv_at hl 1 rfl) ?_
        refine lv_iadd hx hb dX1_note_20 ?_
        refine lv_topi (fun v20 e20 => ?_)
        obtain rfl : v20 = nI (49 * N + k) := e20.trans (nI_add _ _)
        refine lv_aload_n hx hb dX1_note_21 rfl (lv_at hl 0 rfl) ?_
        refine va_get (D := D) (ci := 1) (v := .ref (b 8)) (C := RX1) (T := TX1) (N := 9) hx hb hts in_X1 hown hK hP 0 rfl rfl 8 (by decide) (hts _ q202) (fun _ h9 => h9) rfl dX1_note_22 ?_
        refine lv_iload_n hx hb dX1_note_25 rfl (lv_at hl 1 rfl) ?_
        refine go_ild hx hb hK hP 8 7 rfl rfl k (rfl) (by omega) (by decide) dX1_note_26 ?_
        refine go_ist hx hb hK hP hD hS 2 1 rfl rfl (49 * N + k) (rfl) (by omega) (by decide) dX1_note_27 (fun hi_27 H locs ehi_27 hP hD hS => ?_)
        have hP : va_P D go_cl (go_M b cs bd hi_27 hf hs dn cp rc dd kp) H := hP
        have hD : va_D A (go_M b cs bd hi_27 hf hs dn cp rc dd kp) := hD
        refine lv_iinc (v := nI (k + 1)) (lv' := [(1, .int (nI (k + 1))), (0, .ref (b 0))]) hx hb dX1_note_28 hl (k := 1) rfl (nI_add k 1) (by decide) rfl (fun ls hl => ?_)
        refine lv_goto (tgt := 2) hx hb dX1_note_31 (by decide) ?_
        exact ih (k + 1) hi_27 (by omega) (by omega) (fun j hj => by
          rw [ehi_27]
          by_cases cd : j = k
          · rw [cd, pk_us]
          · rw [pk_un (by omega)]; exact hz j (by omega)) (fun x hx9 => by
          rw [ehi_27, pk_un (by omega)]; exact hz2 x hx9) _ _ _ hP hD hS (lv_sub hl [1, 0] rfl)
  refine lv_iconst (v := nI 0) hx hb dX1_note_0 (by decide) ?_
  refine lv_istore_n (lv' := [(1, .int (nI 0)), (0, .ref (b 0))]) hx hb dX1_note_1 rfl hl (by decide) rfl (fun ls hl => ?_)
  exact lp2 50 0 hi (by omega) (by omega) (fun j h => absurd h (Nat.not_lt_zero j)) (fun _ _ => rfl) _ _ _ hP hD hS (lv_sub hl [1, 0] rfl)
end GoM
end
section
/-! GoBoardModel: putAndCapture, tryMove and the public methods: printed by gen/m2.py -/
theorem go_asb {f g : Nat → Int32} {B2 H2 : Nat → Nat} (hb : go_ba f B2) (hb2 : go_b2 B2) (hh : ∀ j, j < 49 → g j = nI (H2 j)) (hH : go_b2 H2) : (∀ j, j < 49 → f j = g j) ↔ ∀ j, j < 49 → B2 j = H2 j := by
  constructor
  · intro h j hj
    have h1 := h j hj
    have b1 := hb2 j hj
    have b2 := hH j hj
    rw [hb j hj, hh j hj] at h1
    exact (nI_eq (by omega) (by omega)).mp h1
  · intro h j hj
    rw [hb j hj, hh j hj, h j hj]
theorem go_MI_bd {a : go_A} {bd bd2 hi hf hs cp : Nat → Int32} {dn : Int32} (hM : go_MI a bd hi hf hs dn cp) (h : ∀ j, j < 49 → bd2 j = bd j) : go_MI a bd2 hi hf hs dn cp := ⟨fun j hj => (h j hj).trans (hM.1 j hj), hM.2⟩
theorem go_tc_i {B : Nat → Nat} {P k : Nat} : (∃ j i, (j < 49 ∧ go_gp B k j) ∧ go_ad j i ∧ B i = P) ↔ go_tc B P k :=
  ⟨fun ⟨j, i, h1, h2, h3⟩ => ⟨j, i, h1.2, h2, h3⟩, fun ⟨j, i, h1, h2, h3⟩ => ⟨j, i, ⟨go_gp_lt h1, h1⟩, h2, h3⟩⟩
theorem go_nl_le (B : Nat → Nat) (k : Nat) : go_nl B k ≤ 49 := go_cnt_le _ 49
theorem go_hd_F {B : Nat → Nat} {P k F : Nat} (hk : k < 49) (hB : B k = P) (f2 : go_gp B k F) (f3 : ∀ j, j < F → ¬ go_gp B k j) : F = k ↔ go_hd B P k := by
  constructor
  · intro e
    refine ⟨hk, hB, fun i hi => ?_⟩
    have := fun h => f3 i h hi
    rw [e] at this
    exact Nat.not_lt.mp this
  · intro h
    have h1 := h.2.2 F f2
    have h2 : ¬ k < F := fun h => f3 k h (go_gp_q hk)
    omega
section GoM
variable {l : Launch} {D : va_G} {b : Nat → Nat} {cs : Nat → ClassId} {bd hi hf hs : Nat → Int32} {dn : Int32} {cp rc dd kp : Nat → Int32} {B : Nat → Nat} {Z : Nat → Prop} {a : go_A}
set_option maxHeartbeats 4000000 in
set_option maxRecDepth 100000 in
theorem gX1_putAndCapture (P K : Nat)  (hP2 : P < 2) (hK9 : K < 49) (hB : go_ba bd B) (hB2 : go_b2 B) : ∀ sz : Nat, Met l yX1_putAndCapture (ws_ yX1_putAndCapture cX1_putAndCapture 5 (some .int)) ({ frames := 3, cells := 0, slots := 0, locals := 71 } : Room) (go_mP D (go_M b cs bd hi hf hs dn cp rc dd kp) (go_Mt cs) sz [.ref (b 0), .int (nI P), .int (nI K)]) (go_mQi (fun (r : Int32) (u : (Nat → Int32) × (Nat → Int32) × (Nat → Int32)) => match u with | (bd', rc', dd') => r = nI (go_tk B P K) ∧ go_ba bd' (go_tb B P K)) D (go_Mt cs) (fun u : (Nat → Int32) × (Nat → Int32) × (Nat → Int32) => match u with | (bd', rc', dd') => go_M b cs bd' hi hf hs dn cp rc' dd' kp) (va_A (go_M b cs bd hi hf hs dn cp rc dd kp) sz)) 0 0 (va_A (go_M b cs bd hi hf hs dn cp rc dd kp) sz) := by
  refine go_mMet (Qf := fun A => go_mQi (fun (r : Int32) (u : (Nat → Int32) × (Nat → Int32) × (Nat → Int32)) => match u with | (bd', rc', dd') => r = nI (go_tk B P K) ∧ go_ba bd' (go_tb B P K)) D (go_Mt cs) (fun u : (Nat → Int32) × (Nat → Int32) × (Nat → Int32) => match u with | (bd', rc', dd') => go_M b cs bd' hi hf hs dn cp rc' dd' kp) A) (by decide) (Nat.le_of_ble_eq_true rfl) ?_
  intro p e s m below meth c ls A X hK hP hD hA hS hl
  have hl : lv_has ls 5 [(0, .ref (b 0)), (1, .int (nI P)), (2, .int (nI K))] := hl
  obtain ⟨hx, hb, hml, hr, hlocks, hown, hts⟩ := id X
  have hP : va_P D go_cl (go_M b cs bd hi hf hs dn cp rc dd kp) s.heap := hP
  refine lv_aload_n hx hb dX1_putAndCapture_0 rfl (lv_at hl 0 rfl) ?_
  refine va_get (D := D) (ci := 1) (v := .ref (b 1)) (C := RX1) (T := TX1) (N := 9) hx hb hts in_X1 hown hK hP 0 rfl rfl 0 (by decide) (hts _ q194) (fun _ h9 => h9) rfl dX1_putAndCapture_1 ?_
  refine lv_iload_n hx hb dX1_putAndCapture_4 rfl (lv_at hl 2 rfl) ?_
  refine lv_iload_n hx hb dX1_putAndCapture_5 rfl (lv_at hl 1 rfl) ?_
  refine go_ist hx hb hK hP hD hS 1 0 rfl rfl K (rfl) (by omega) (by decide) dX1_putAndCapture_6 (fun bd_6 H locs ebd_6 hP hD hS => ?_)
  have hP : va_P D go_cl (go_M b cs bd_6 hi hf hs dn cp rc dd kp) H := hP
  have hD : va_D A (go_M b cs bd_6 hi hf hs dn cp rc dd kp) := hD
  refine lv_iconst (v := nI 0) hx hb dX1_putAndCapture_7 (by decide) ?_
  refine lv_istore_n (lv' := [(3, .int (nI 0)), (0, .ref (b 0)), (1, .int (nI P)), (2, .int (nI K))]) hx hb dX1_putAndCapture_8 rfl hl (by decide) rfl (fun ls hl => ?_)
  have hB1 : go_ba bd_6 (go_put B K P) := go_ba_put hB ebd_6
  have hB12 := go_put_b2 (K := K) hB2 hP2
  have lp83 : ∀ (n : Nat) (k ct : Nat) (xbd : (Nat → Int32)) (xrc : (Nat → Int32)) (xdd : (Nat → Int32)), 50 ≤ k + n → k ≤ 49 → ct = go_cnt (go_dd (go_put B K P) P) k → (∀ j, j < k → xbd j = nI (go_cap (go_put B K P) P j)) → (∀ j, k ≤ j → j < 49 → xbd j = bd_6 j) → go_za xdd (go_dd (go_put B K P) P) → ∀ (H : Heap) (locs : List Loc) (ls : Array Slot), va_P D go_cl (go_M b cs xbd hi hf hs dn cp xrc xdd kp) H → va_D A (go_M b cs xbd hi hf hs dn cp xrc xdd kp) → va_S A s.heap H locs → lv_has ls 5 [(0, .ref (b 0)), (3, .int (nI ct)), (4, .int (nI k))] → W p l e ({ frames := 3, cells := 0, slots := 0, locals := 71 } : Room) s m ([.ref (b 0), .int (nI P), .int (nI K)] : List Value).toArray below meth c H locs 0 0 (MQ below (go_mQi (fun (r : Int32) (u : (Nat → Int32) × (Nat → Int32) × (Nat → Int32)) => match u with | (bd', rc', dd') => r = nI (go_tk B P K) ∧ go_ba bd' (go_tb B P K)) D (go_Mt cs) (fun u : (Nat → Int32) × (Nat → Int32) × (Nat → Int32) => match u with | (bd', rc', dd') => go_M b cs bd' hi hf hs dn cp rc' dd' kp) A) ([.ref (b 0), .int (nI P), .int (nI K)] : List Value).toArray s 0 0 A) (F0 m 83 ls []) := by
    intro n
    induction n with
    | zero =>
      intro k ct xbd xrc xdd hn hk hct hz hz2 hdd
      exact absurd hn (by omega)
    | succ n ih =>
      intro k ct xbd xrc xdd hn hk hct hz hz2 hdd H locs ls hP hD hS hl
      refine lv_iload hx hb dX1_putAndCapture_83 (lv_at hl 2 rfl) ?_
      refine lv_bipush (v := nI 49) hx hb dX1_putAndCapture_85 (by decide) ?_
      refine lv_icmp_ge (tgt := 118) hx hb dX1_putAndCapture_87 (by decide) (fun c87 => ?_) (fun c87 => ?_)
      · have c87 : 49 ≤ k := (nI_leI (a := 49) (b := k) (by omega) (by omega)).mp c87
        refine lv_iload_n hx hb dX1_putAndCapture_118 rfl (lv_at hl 1 rfl) ?_
        refine go_mri X hK hS ((xbd, xrc, xdd)) hP hD dX1_putAndCapture_119 ?_
        obtain rfl : k = 49 := by omega
        exact ⟨congrArg nI hct, hz⟩
      · have c87 : ¬ 49 ≤ k := fun h => c87 ((nI_leI (a := 49) (b := k) (by omega) (by omega)).mpr h)
        have hk9 : k < 49 := by omega
        have hct49 := go_cnt_le (go_dd (go_put B K P) P) k
        refine lv_aload_n hx hb dX1_putAndCapture_90 rfl (lv_at hl 0 rfl) ?_
        refine va_get (D := D) (ci := 1) (v := .ref (b 7)) (C := RX1) (T := TX1) (N := 9) hx hb hts in_X1 hown hK hP 0 rfl rfl 7 (by decide) (hts _ q201) (fun _ h9 => h9) rfl dX1_putAndCapture_91 ?_
        refine lv_iload hx hb dX1_putAndCapture_94 (lv_at hl 2 rfl) ?_
        refine go_ild hx hb hK hP 7 6 rfl rfl k (rfl) (by omega) (by decide) dX1_putAndCapture_96 ?_
        refine lv_iconst (v := nI 1) hx hb dX1_putAndCapture_97 (by decide) ?_
        refine lv_icmp_ne (tgt := 112) hx hb dX1_putAndCapture_98 (by decide) (fun c98 => ?_) (fun c98 => ?_)
        · have hd9 := (go_z_1 (hdd k hk9)).2 c98
          refine lv_iinc (v := nI (k + 1)) (lv' := [(4, .int (nI (k + 1))), (0, .ref (b 0)), (3, .int (nI ct))]) hx hb dX1_putAndCapture_112 hl (k := 2) rfl (nI_add k 1) (by decide) rfl (fun ls hl => ?_)
          refine lv_goto (tgt := 83) hx hb dX1_putAndCapture_115 (by decide) ?_
          exact ih (k + 1) ct xbd xrc xdd (by omega) (by omega) (by rw [go_cnt_n hd9]; exact hct) (fun j hj => by
            by_cases cd : j = k
            · rw [cd, hz2 k (Nat.le_refl k) hk9, hB1 k hk9, go_cap_f hd9]
            · exact hz j (by omega)) (fun j h1 h2 => hz2 j (by omega) h2) hdd _ _ _ hP hD hS (lv_sub hl [1, 2, 0] rfl)
        · have hd9 := (go_z_1 (hdd k hk9)).1 c98
          refine lv_aload_n hx hb dX1_putAndCapture_101 rfl (lv_at hl 0 rfl) ?_
          refine va_get (D := D) (ci := 1) (v := .ref (b 1)) (C := RX1) (T := TX1) (N := 9) hx hb hts in_X1 hown hK hP 0 rfl rfl 0 (by decide) (hts _ q194) (fun _ h9 => h9) rfl dX1_putAndCapture_102 ?_
          refine lv_iload hx hb dX1_putAndCapture_105 (lv_at hl 2 rfl) ?_
          refine lv_iconst (v := nI 2) hx hb dX1_putAndCapture_107 (by decide) ?_
          refine go_ist hx hb hK hP hD hS 1 0 rfl rfl k (rfl) (by omega) (by decide) dX1_putAndCapture_108 (fun bd_108 H locs ebd_108 hP hD hS => ?_)
          have hP : va_P D go_cl (go_M b cs bd_108 hi hf hs dn cp xrc xdd kp) H := hP
          have hD : va_D A (go_M b cs bd_108 hi hf hs dn cp xrc xdd kp) := hD
          refine lv_iinc (v := nI (ct + 1)) (lv' := [(3, .int (nI (ct + 1))), (0, .ref (b 0)), (4, .int (nI k))]) hx hb dX1_putAndCapture_109 hl (k := 1) rfl (nI_add ct 1) (by decide) rfl (fun ls hl => ?_)
          refine lv_iinc (v := nI (k + 1)) (lv' := [(4, .int (nI (k + 1))), (3, .int (nI (ct + 1))), (0, .ref (b 0))]) hx hb dX1_putAndCapture_112 hl (k := 2) rfl (nI_add k 1) (by decide) rfl (fun ls hl => ?_)
          refine lv_goto (tgt := 83) hx hb dX1_putAndCapture_115 (by decide) ?_
          exact ih (k + 1) (ct + 1) bd_108 xrc xdd (by omega) (by omega) (by rw [go_cnt_y hd9, ← hct]) (go_fill (g := fun j => nI (go_cap (go_put B K P) P j)) hz ebd_108 (by rw [go_cap_t hd9])) (fun j h1 h2 => by rw [ebd_108, pk_un (by omega)]; exact hz2 j (by omega) h2) hdd _ _ _ hP hD hS (lv_sub hl [2, 1, 0] rfl)
  have lp30 : ∀ (n : Nat) (k : Nat) (xrc : (Nat → Int32)) (xdd : (Nat → Int32)), 50 ≤ k + n → k ≤ 49 → (∀ j, j < k → xdd j = go_z (go_dd (go_put B K P) P j)) → (∀ j, k ≤ j → j < 49 → xdd j = nI 0) → ∀ (H : Heap) (locs : List Loc) (ls : Array Slot), va_P D go_cl (go_M b cs bd_6 hi hf hs dn cp xrc xdd kp) H → va_D A (go_M b cs bd_6 hi hf hs dn cp xrc xdd kp) → va_S A s.heap H locs → lv_has ls 5 [(0, .ref (b 0)), (1, .int (nI P)), (3, .int (nI k))] → W p l e ({ frames := 3, cells := 0, slots := 0, locals := 71 } : Room) s m ([.ref (b 0), .int (nI P), .int (nI K)] : List Value).toArray below meth c H locs 0 0 (MQ below (go_mQi (fun (r : Int32) (u : (Nat → Int32) × (Nat → Int32) × (Nat → Int32)) => match u with | (bd', rc', dd') => r = nI (go_tk B P K) ∧ go_ba bd' (go_tb B P K)) D (go_Mt cs) (fun u : (Nat → Int32) × (Nat → Int32) × (Nat → Int32) => match u with | (bd', rc', dd') => go_M b cs bd' hi hf hs dn cp rc' dd' kp) A) ([.ref (b 0), .int (nI P), .int (nI K)] : List Value).toArray s 0 0 A) (F0 m 30 ls []) := by
    intro n
    induction n with
    | zero =>
      intro k xrc xdd hn hk hz hz2
      exact absurd hn (by omega)
    | succ n ih =>
      intro k xrc xdd hn hk hz hz2 H locs ls hP hD hS hl
      refine lv_iload_n hx hb dX1_putAndCapture_30 rfl (lv_at hl 2 rfl) ?_
      refine lv_bipush (v := nI 49) hx hb dX1_putAndCapture_31 (by decide) ?_
      refine lv_icmp_ge (tgt := 78) hx hb dX1_putAndCapture_33 (by decide) (fun c33 => ?_) (fun c33 => ?_)
      · have c33 : 49 ≤ k := (nI_leI (a := 49) (b := k) (by omega) (by omega)).mp c33
        refine lv_iconst (v := nI 0) hx hb dX1_putAndCapture_78 (by decide) ?_
        refine lv_istore_n (lv' := [(3, .int (nI 0)), (0, .ref (b 0)), (1, .int (nI P))]) hx hb dX1_putAndCapture_79 rfl hl (by decide) rfl (fun ls hl => ?_)
        refine lv_iconst (v := nI 0) hx hb dX1_putAndCapture_80 (by decide) ?_
        refine lv_istore (lv' := [(4, .int (nI 0)), (3, .int (nI 0)), (0, .ref (b 0)), (1, .int (nI P))]) hx hb dX1_putAndCapture_81 hl (by decide) rfl (fun ls hl => ?_)
        exact lp83 50 0 0 bd_6 xrc xdd (by omega) (by omega) rfl (fun j h => absurd h (Nat.not_lt_zero j)) (fun j _ _ => rfl) (fun j hj => hz j (by omega)) _ _ _ hP hD hS (lv_sub hl [2, 1, 0] rfl)
      · have c33 : ¬ 49 ≤ k := fun h => c33 ((nI_leI (a := 49) (b := k) (by omega) (by omega)).mpr h)
        have hk9 : k < 49 := by omega
        refine lv_aload_n hx hb dX1_putAndCapture_36 rfl (lv_at hl 0 rfl) ?_
        refine va_get (D := D) (ci := 1) (v := .ref (b 1)) (C := RX1) (T := TX1) (N := 9) hx hb hts in_X1 hown hK hP 0 rfl rfl 0 (by decide) (hts _ q194) (fun _ h9 => h9) rfl dX1_putAndCapture_37 ?_
        refine lv_iload_n hx hb dX1_putAndCapture_40 rfl (lv_at hl 2 rfl) ?_
        refine go_ild hx hb hK hP 1 0 rfl rfl k (rfl) (by omega) (by decide) dX1_putAndCapture_41 ?_
        refine lv_iconst (v := nI 1) hx hb dX1_putAndCapture_42 (by decide) ?_
        refine lv_iload_n hx hb dX1_putAndCapture_43 rfl (lv_at hl 1 rfl) ?_
        refine lv_isub hx hb dX1_putAndCapture_44 ?_
        refine lv_topi (fun v44 e44 => ?_)
        obtain rfl : v44 = nI (1 - P) := e44.trans (pk_sub (by omega))
        refine lv_icmp_ne (tgt := 72) hx hb dX1_putAndCapture_45 (by decide) (fun c45 => ?_) (fun c45 => ?_)
        · have hne : ¬ (go_put B K P) k = 1 - P := fun e => c45 ((go_ba_eq hB1 hB12 hk9 (by omega)).mpr e)
          refine lv_iinc (v := nI (k + 1)) (lv' := [(3, .int (nI (k + 1))), (0, .ref (b 0)), (1, .int (nI P))]) hx hb dX1_putAndCapture_72 hl (k := 2) rfl (nI_add k 1) (by decide) rfl (fun ls hl => ?_)
          refine lv_goto (tgt := 30) hx hb dX1_putAndCapture_75 (by decide) ?_
          exact ih (k + 1) xrc xdd (by omega) (by omega) (fun j hj => by
            by_cases cd : j = k
            · rw [cd, hz2 k (Nat.le_refl k) hk9]; exact (go_z_f (fun h => hne h.2.1)).symm
            · exact hz j (by omega)) (fun j h1 h2 => hz2 j (by omega) h2) _ _ _ hP hD hS (lv_sub hl [1, 2, 0] rfl)
        · have heq : (go_put B K P) k = 1 - P := (go_ba_eq hB1 hB12 hk9 (by omega)).mp c45
          refine lv_aload_n hx hb dX1_putAndCapture_48 rfl (lv_at hl 0 rfl) ?_
          refine lv_iload_n hx hb dX1_putAndCapture_49 rfl (lv_at hl 2 rfl) ?_
          refine go_mcI (As := [.int (nI k)]) (rest := []) X (gX1_reachFrom (B := (go_put B K P)) k hk9 hB1 hB12) (cwV 1 hts (lw_V q243 q245 qs16 q27 q246) rfl rfl rfl (by decide +kernel) ⟨Nat.le_of_ble_eq_true rfl, Nat.le_of_ble_eq_true rfl⟩) hK hP hD hA (va_recv hK hP (ci := 1) (q0 := 0) rfl rfl) rfl rfl hl.1 (Nat.le_of_ble_eq_true rfl) dX1_putAndCapture_50 ⟨Nat.zero_le _, Nat.zero_le _⟩ hS (fun r50 u50 H1 locs p50 hP hD hS hk => ?_)
          clear hk
          obtain ⟨rc_50, rfl⟩ : ∃ z, z = u50 := ⟨_, rfl⟩
          generalize H1 = H at hP hS ⊢
          have hP : va_P D go_cl (go_M b cs bd_6 hi hf hs dn cp rc_50 xdd kp) H := hP
          have hD : va_D A (go_M b cs bd_6 hi hf hs dn cp rc_50 xdd kp) := hD
          try dsimp only at p50
          refine lv_pop hx hb dX1_putAndCapture_53 rfl ?_
          refine lv_aload_n hx hb dX1_putAndCapture_54 rfl (lv_at hl 0 rfl) ?_
          refine va_get (D := D) (ci := 1) (v := .ref (b 7)) (C := RX1) (T := TX1) (N := 9) hx hb hts in_X1 hown hK hP 0 rfl rfl 7 (by decide) (hts _ q201) (fun _ h9 => h9) rfl dX1_putAndCapture_55 ?_
          refine lv_iload_n hx hb dX1_putAndCapture_58 rfl (lv_at hl 2 rfl) ?_
          refine lv_aload_n hx hb dX1_putAndCapture_59 rfl (lv_at hl 0 rfl) ?_
          refine go_pcI (As := []) (rest := [.int (nI k), .ref (b 7)]) X (gX1_countLiberties (B := (go_put B K P)) (Z := go_gp (go_put B K P) k) hB1 hB12 p50.2) (cwV 0 hts (lw_V q255 q257 qs19 q27 q258) rfl rfl rfl (by decide +kernel) ⟨Nat.le_of_ble_eq_true rfl, Nat.le_of_ble_eq_true rfl⟩) hK hP (va_recv hK hP (ci := 1) (q0 := 0) rfl rfl) rfl rfl hl.1 (Nat.le_of_ble_eq_true rfl) dX1_putAndCapture_60 ⟨Nat.zero_le _, Nat.zero_le _⟩ hS (fun r60 H1 locs p60 hk hS => ?_)
          have hP := hk _ hP
          clear hk
          generalize H1 = H at hP hS ⊢
          have hnl49 := go_nl_le (go_put B K P) k
          refine lv_if_ne (tgt := 70) hx hb dX1_putAndCapture_63 (by decide) (fun c63 => ?_) (fun c63 => ?_)
          · have hnl : ¬ go_nl (go_put B K P) k = 0 := fun e => c63 (p60.trans (congrArg nI e))
            refine lv_iconst (v := nI 0) hx hb dX1_putAndCapture_70 (by decide) ?_
            refine go_ist hx hb hK hP hD hS 7 6 rfl rfl k (rfl) (by omega) (by decide) dX1_putAndCapture_71 (fun dd_71 H locs edd_71 hP hD hS => ?_)
            have hP : va_P D go_cl (go_M b cs bd_6 hi hf hs dn cp rc_50 dd_71 kp) H := hP
            have hD : va_D A (go_M b cs bd_6 hi hf hs dn cp rc_50 dd_71 kp) := hD
            refine lv_iinc (v := nI (k + 1)) (lv' := [(3, .int (nI (k + 1))), (0, .ref (b 0)), (1, .int (nI P))]) hx hb dX1_putAndCapture_72 hl (k := 2) rfl (nI_add k 1) (by decide) rfl (fun ls hl => ?_)
            refine lv_goto (tgt := 30) hx hb dX1_putAndCapture_75 (by decide) ?_
            exact ih (k + 1) rc_50 dd_71 (by omega) (by omega) (go_fill (g := fun j => go_z (go_dd (go_put B K P) P j)) hz edd_71 (go_z_f (fun h => hnl h.2.2)).symm) (fun j h1 h2 => by rw [edd_71, pk_un (by omega)]; exact hz2 j (by omega) h2) _ _ _ hP hD hS (lv_sub hl [1, 2, 0] rfl)
          · have hnl : go_nl (go_put B K P) k = 0 := (nI_eq (a := go_nl (go_put B K P) k) (b := 0) (by omega) (by decide)).mp (p60.symm.trans c63)
            refine lv_iconst (v := nI 1) hx hb dX1_putAndCapture_66 (by decide) ?_
            refine lv_goto (tgt := 71) hx hb dX1_putAndCapture_67 (by decide) ?_
            refine go_ist hx hb hK hP hD hS 7 6 rfl rfl k (rfl) (by omega) (by decide) dX1_putAndCapture_71 (fun dd_71 H locs edd_71 hP hD hS => ?_)
            have hP : va_P D go_cl (go_M b cs bd_6 hi hf hs dn cp rc_50 dd_71 kp) H := hP
            have hD : va_D A (go_M b cs bd_6 hi hf hs dn cp rc_50 dd_71 kp) := hD
            refine lv_iinc (v := nI (k + 1)) (lv' := [(3, .int (nI (k + 1))), (0, .ref (b 0)), (1, .int (nI P))]) hx hb dX1_putAndCapture_72 hl (k := 2) rfl (nI_add k 1) (by decide) rfl (fun ls hl => ?_)
            refine lv_goto (tgt := 30) hx hb dX1_putAndCapture_75 (by decide) ?_
            exact ih (k + 1) rc_50 dd_71 (by omega) (by omega) (go_fill (g := fun j => go_z (go_dd (go_put B K P) P j)) hz edd_71 (go_z_t ⟨hk9, heq, hnl⟩).symm) (fun j h1 h2 => by rw [edd_71, pk_un (by omega)]; exact hz2 j (by omega) h2) _ _ _ hP hD hS (lv_sub hl [1, 2, 0] rfl)
  have lp9 : ∀ (n : Nat) (k : Nat) (xdd : (Nat → Int32)), 50 ≤ k + n → k ≤ 49 → (∀ j, j < k → xdd j = nI 0) → ∀ (H : Heap) (locs : List Loc) (ls : Array Slot), va_P D go_cl (go_M b cs bd_6 hi hf hs dn cp rc xdd kp) H → va_D A (go_M b cs bd_6 hi hf hs dn cp rc xdd kp) → va_S A s.heap H locs → lv_has ls 5 [(0, .ref (b 0)), (1, .int (nI P)), (3, .int (nI k))] → W p l e ({ frames := 3, cells := 0, slots := 0, locals := 71 } : Room) s m ([.ref (b 0), .int (nI P), .int (nI K)] : List Value).toArray below meth c H locs 0 0 (MQ below (go_mQi (fun (r : Int32) (u : (Nat → Int32) × (Nat → Int32) × (Nat → Int32)) => match u with | (bd', rc', dd') => r = nI (go_tk B P K) ∧ go_ba bd' (go_tb B P K)) D (go_Mt cs) (fun u : (Nat → Int32) × (Nat → Int32) × (Nat → Int32) => match u with | (bd', rc', dd') => go_M b cs bd' hi hf hs dn cp rc' dd' kp) A) ([.ref (b 0), .int (nI P), .int (nI K)] : List Value).toArray s 0 0 A) (F0 m 9 ls []) := by
    intro n
    induction n with
    | zero =>
      intro k xdd hn hk hz
      exact absurd hn (by omega)
    | succ n ih =>
      intro k xdd hn hk hz H locs ls hP hD hS hl
      refine lv_iload_n hx hb dX1_putAndCapture_9 rfl (lv_at hl 2 rfl) ?_
      refine lv_bipush (v := nI 49) hx hb dX1_putAndCapture_10 (by decide) ?_
      refine lv_icmp_ge (tgt := 28) hx hb dX1_putAndCapture_12 (by decide) (fun c12 => ?_) (fun c12 => ?_)
      · have c12 : 49 ≤ k := (nI_leI (a := 49) (b := k) (by omega) (by omega)).mp c12
        refine lv_iconst (v := nI 0) hx hb dX1_putAndCapture_28 (by decide) ?_
        refine lv_istore_n (lv' := [(3, .int (nI 0)), (0, .ref (b 0)), (1, .int (nI P))]) hx hb dX1_putAndCapture_29 rfl hl (by decide) rfl (fun ls hl => ?_)
        exact lp30 50 0 rc xdd (by omega) (by omega) (fun j h => absurd h (Nat.not_lt_zero j)) (fun j _ hj => hz j (by omega)) _ _ _ hP hD hS (lv_sub hl [1, 2, 0] rfl)
      · have c12 : ¬ 49 ≤ k := fun h => c12 ((nI_leI (a := 49) (b := k) (by omega) (by omega)).mpr h)
        refine lv_aload_n hx hb dX1_putAndCapture_15 rfl (lv_at hl 0 rfl) ?_
        refine va_get (D := D) (ci := 1) (v := .ref (b 7)) (C := RX1) (T := TX1) (N := 9) hx hb hts in_X1 hown hK hP 0 rfl rfl 7 (by decide) (hts _ q201) (fun _ h9 => h9) rfl dX1_putAndCapture_16 ?_
        refine lv_iload_n hx hb dX1_putAndCapture_19 rfl (lv_at hl 2 rfl) ?_
        refine lv_iconst (v := nI 0) hx hb dX1_putAndCapture_20 (by decide) ?_
        refine go_ist hx hb hK hP hD hS 7 6 rfl rfl k (rfl) (by omega) (by decide) dX1_putAndCapture_21 (fun dd_21 H locs edd_21 hP hD hS => ?_)
        have hP : va_P D go_cl (go_M b cs bd_6 hi hf hs dn cp rc dd_21 kp) H := hP
        have hD : va_D A (go_M b cs bd_6 hi hf hs dn cp rc dd_21 kp) := hD
        refine lv_iinc (v := nI (k + 1)) (lv' := [(3, .int (nI (k + 1))), (0, .ref (b 0)), (1, .int (nI P))]) hx hb dX1_putAndCapture_22 hl (k := 2) rfl (nI_add k 1) (by decide) rfl (fun ls hl => ?_)
        refine lv_goto (tgt := 9) hx hb dX1_putAndCapture_25 (by decide) ?_
        exact ih (k + 1) dd_21 (by omega) (by omega) (go_fill (g := fun _ => nI 0) hz edd_21 rfl) _ _ _ hP hD hS (lv_sub hl [1, 2, 0] rfl)
  exact lp9 50 0 dd (by omega) (by omega) (fun j h => absurd h (Nat.not_lt_zero j)) _ _ _ hP hD hS (lv_sub hl [1, 2, 0] rfl)
set_option maxHeartbeats 4000000 in
set_option maxRecDepth 100000 in
theorem gX1_tryMove (P K : Nat)  (hP2 : P < 2) (hK9 : K < 49) (hM : go_MI a bd hi hf hs dn cp) (hI : go_AI a) : ∀ sz : Nat, Met l yX1_tryMove (ws_ yX1_tryMove cX1_tryMove 4 (some .int)) ({ frames := 4, cells := 0, slots := 0, locals := 95 } : Room) (go_mP D (go_M b cs bd hi hf hs dn cp rc dd kp) (go_Mt cs) sz [.ref (b 0), .int (nI P), .int (nI K)]) (go_mQi (fun (r : Int32) (u : (Nat → Int32) × (Nat → Int32) × (Nat → Int32) × (Nat → Int32)) => match u with | (bd', rc', dd', kp') => r = go_tv (go_B a) (go_n a) (go_HB a) P K ∧ go_ba bd' (go_tb (go_B a) P K) ∧ ∀ j, j < 49 → kp' j = bd j) D (go_Mt cs) (fun u : (Nat → Int32) × (Nat → Int32) × (Nat → Int32) × (Nat → Int32) => match u with | (bd', rc', dd', kp') => go_M b cs bd' hi hf hs dn cp rc' dd' kp') (va_A (go_M b cs bd hi hf hs dn cp rc dd kp) sz)) 0 0 (va_A (go_M b cs bd hi hf hs dn cp rc dd kp) sz) := by
  refine go_mMet (Qf := fun A => go_mQi (fun (r : Int32) (u : (Nat → Int32) × (Nat → Int32) × (Nat → Int32) × (Nat → Int32)) => match u with | (bd', rc', dd', kp') => r = go_tv (go_B a) (go_n a) (go_HB a) P K ∧ go_ba bd' (go_tb (go_B a) P K) ∧ ∀ j, j < 49 → kp' j = bd j) D (go_Mt cs) (fun u : (Nat → Int32) × (Nat → Int32) × (Nat → Int32) × (Nat → Int32) => match u with | (bd', rc', dd', kp') => go_M b cs bd' hi hf hs dn cp rc' dd' kp') A) (by decide) (Nat.le_of_ble_eq_true rfl) ?_
  intro p e s m below meth c ls A X hK hP hD hA hS hl
  have hl : lv_has ls 4 [(0, .ref (b 0)), (1, .int (nI P)), (2, .int (nI K))] := hl
  obtain ⟨hx, hb, hml, hr, hlocks, hown, hts⟩ := id X
  have hP : va_P D go_cl (go_M b cs bd hi hf hs dn cp rc dd kp) s.heap := hP
  have hdn := hM.2.2.2.2.1
  have hn40 := hI.2.1
  have lp2 : ∀ (n : Nat) (k : Nat) (xkp : (Nat → Int32)), 50 ≤ k + n → k ≤ 49 → (∀ j, j < k → xkp j = bd j) → ∀ (H : Heap) (locs : List Loc) (ls : Array Slot), va_P D go_cl (go_M b cs bd hi hf hs dn cp rc dd xkp) H → va_D A (go_M b cs bd hi hf hs dn cp rc dd xkp) → va_S A s.heap H locs → lv_has ls 4 [(0, .ref (b 0)), (1, .int (nI P)), (2, .int (nI K)), (3, .int (nI k))] → W p l e ({ frames := 4, cells := 0, slots := 0, locals := 95 } : Room) s m ([.ref (b 0), .int (nI P), .int (nI K)] : List Value).toArray below meth c H locs 0 0 (MQ below (go_mQi (fun (r : Int32) (u : (Nat → Int32) × (Nat → Int32) × (Nat → Int32) × (Nat → Int32)) => match u with | (bd', rc', dd', kp') => r = go_tv (go_B a) (go_n a) (go_HB a) P K ∧ go_ba bd' (go_tb (go_B a) P K) ∧ ∀ j, j < 49 → kp' j = bd j) D (go_Mt cs) (fun u : (Nat → Int32) × (Nat → Int32) × (Nat → Int32) × (Nat → Int32) => match u with | (bd', rc', dd', kp') => go_M b cs bd' hi hf hs dn cp rc' dd' kp') A) ([.ref (b 0), .int (nI P), .int (nI K)] : List Value).toArray s 0 0 A) (F0 m 2 ls []) := by
    intro n
    induction n with
    | zero =>
      intro k xkp hn hk hz
      exact absurd hn (by omega)
    | succ n ih =>
      intro k xkp hn hk hz H locs ls hP hD hS hl
      refine lv_iload_n hx hb dX1_tryMove_2 rfl (lv_at hl 3 rfl) ?_
      refine lv_bipush (v := nI 49) hx hb dX1_tryMove_3 (by decide) ?_
      refine lv_icmp_ge (tgt := 26) hx hb dX1_tryMove_5 (by decide) (fun c5 => ?_) (fun c5 => ?_)
      · have c5 : 49 ≤ k := (nI_leI (a := 49) (b := k) (by omega) (by omega)).mp c5
        refine lv_aload_n hx hb dX1_tryMove_26 rfl (lv_at hl 0 rfl) ?_
        refine lv_iload_n hx hb dX1_tryMove_27 rfl (lv_at hl 1 rfl) ?_
        refine lv_iload_n hx hb dX1_tryMove_28 rfl (lv_at hl 2 rfl) ?_
        refine go_mcI (As := [.int (nI P), .int (nI K)]) (rest := []) X (gX1_putAndCapture P K hP2 hK9 hM.1 hI.1) (cwV 2 hts (lw_V q239 q241 qs15 q27 q242) rfl rfl rfl (by decide +kernel) ⟨Nat.le_of_ble_eq_true rfl, Nat.le_of_ble_eq_true rfl⟩) hK hP hD hA (va_recv hK hP (ci := 1) (q0 := 0) rfl rfl) rfl rfl hl.1 (Nat.le_of_ble_eq_true rfl) dX1_tryMove_29 ⟨Nat.zero_le _, Nat.zero_le _⟩ hS (fun r29 u29 H1 locs p29 hP hD hS hk => ?_)
        clear hk
        obtain ⟨bd_29, rc_29, dd_29⟩ := u29
        generalize H1 = H at hP hS ⊢
        have hP : va_P D go_cl (go_M b cs bd_29 hi hf hs dn cp rc_29 dd_29 xkp) H := hP
        have hD : va_D A (go_M b cs bd_29 hi hf hs dn cp rc_29 dd_29 xkp) := hD
        try dsimp only at p29
        refine lv_istore_n (lv' := [(3, .int r29), (0, .ref (b 0)), (1, .int (nI P)), (2, .int (nI K))]) hx hb dX1_tryMove_32 rfl hl (by decide) rfl (fun ls hl => ?_)
        refine lv_aload_n hx hb dX1_tryMove_33 rfl (lv_at hl 1 rfl) ?_
        refine lv_iload_n hx hb dX1_tryMove_34 rfl (lv_at hl 3 rfl) ?_
        refine go_mcI (As := [.int (nI K)]) (rest := []) X (gX1_reachFrom (B := (go_tb (go_B a) P K)) K hK9 p29.2 (go_tb_b2 hI.1 hP2)) (cwV 1 hts (lw_V q243 q245 qs16 q27 q246) rfl rfl rfl (by decide +kernel) ⟨Nat.le_of_ble_eq_true rfl, Nat.le_of_ble_eq_true rfl⟩) hK hP hD hA (va_recv hK hP (ci := 1) (q0 := 0) rfl rfl) rfl rfl hl.1 (Nat.le_of_ble_eq_true rfl) dX1_tryMove_35 ⟨Nat.zero_le _, Nat.zero_le _⟩ hS (fun r35 u35 H1 locs p35 hP hD hS hk => ?_)
        clear hk
        obtain ⟨rc_35, rfl⟩ : ∃ z, z = u35 := ⟨_, rfl⟩
        generalize H1 = H at hP hS ⊢
        have hP : va_P D go_cl (go_M b cs bd_29 hi hf hs dn cp rc_35 dd_29 xkp) H := hP
        have hD : va_D A (go_M b cs bd_29 hi hf hs dn cp rc_35 dd_29 xkp) := hD
        try dsimp only at p35
        refine lv_pop hx hb dX1_tryMove_38 rfl ?_
        refine lv_aload_n hx hb dX1_tryMove_39 rfl (lv_at hl 1 rfl) ?_
        refine go_pcI (As := []) (rest := []) X (gX1_countLiberties (B := (go_tb (go_B a) P K)) (Z := go_gp (go_tb (go_B a) P K) K) p29.2 (go_tb_b2 hI.1 hP2) p35.2) (cwV 0 hts (lw_V q255 q257 qs19 q27 q258) rfl rfl rfl (by decide +kernel) ⟨Nat.le_of_ble_eq_true rfl, Nat.le_of_ble_eq_true rfl⟩) hK hP (va_recv hK hP (ci := 1) (q0 := 0) rfl rfl) rfl rfl hl.1 (Nat.le_of_ble_eq_true rfl) dX1_tryMove_40 ⟨Nat.zero_le _, Nat.zero_le _⟩ hS (fun r40 H1 locs p40 hk hS => ?_)
        have hP := hk _ hP
        clear hk
        generalize H1 = H at hP hS ⊢
        have hnl49 := go_nl_le (go_tb (go_B a) P K) K
        refine lv_if_ne (tgt := 49) hx hb dX1_tryMove_43 (by decide) (fun c43 => ?_) (fun c43 => ?_)
        · have hnl : ¬ go_nl (go_tb (go_B a) P K) K = 0 := fun e => c43 (p40.trans (congrArg nI e))
          refine lv_aload_n hx hb dX1_tryMove_49 rfl (lv_at hl 1 rfl) ?_
          refine va_get (D := D) (ci := 1) (v := .int dn) (C := RX1) (T := TX1) (N := 9) hx hb hts in_X1 hown hK hP 0 rfl rfl 4 (by decide) (hts _ q198) (fun _ h9 => h9) rfl dX1_tryMove_50 ?_
          refine lv_if_le (tgt := 74) hx hb dX1_tryMove_53 (by decide) (fun c53 => ?_) (fun c53 => ?_)
          · have hn0 : ¬ 0 < go_n a := fun h => by
              rw [hdn] at c53
              exact nI_nle h (by omega) c53
            refine lv_iload_n hx hb dX1_tryMove_74 rfl (lv_at hl 0 rfl) ?_
            refine go_mri X hK hS ((bd_29, rc_35, dd_29, xkp)) hP hD dX1_tryMove_75 ?_
            exact ⟨p29.1.trans (go_tv_k hnl (fun h => hn0 h.1)).symm, p29.2, fun j hj => hz j (by omega)⟩
          · have hn0 : 0 < go_n a := by
              rcases Nat.eq_zero_or_pos (go_n a) with e | e
              · exact absurd (by rw [hdn, e]; decide) c53
              · exact e
            have hko := go_asb (g := fun j => hi (49 * (go_n a - 1) + j)) p29.2 (go_tb_b2 hI.1 hP2) (hM.2.1 (go_n a - 1) (by omega)) (hI.2.2.1 (go_n a - 1) (by omega))
            refine lv_aload_n hx hb dX1_tryMove_56 rfl (lv_at hl 1 rfl) ?_
            refine lv_aload_n hx hb dX1_tryMove_57 rfl (lv_at hl 1 rfl) ?_
            refine va_get (D := D) (ci := 1) (v := .int dn) (C := RX1) (T := TX1) (N := 9) hx hb hts in_X1 hown hK hP 0 rfl rfl 4 (by decide) (hts _ q198) (fun _ h9 => h9) rfl dX1_tryMove_58 ?_
            refine lv_iconst (v := nI 1) hx hb dX1_tryMove_61 (by decide) ?_
            refine lv_isub hx hb dX1_tryMove_62 ?_
            refine lv_topi (fun v62 e62 => ?_)
            obtain rfl : v62 = nI (go_n a - 1) := e62.trans (by rw [hdn]; exact pk_sub (by omega))
            refine go_pcI (As := [.int (nI (go_n a - 1))]) (rest := []) X (gX1_isAsBefore (go_n a - 1) (by omega)) (cwV 1 hts (lw_V q259 q261 qs20 q27 q262) rfl rfl rfl (by decide +kernel) ⟨Nat.le_of_ble_eq_true rfl, Nat.le_of_ble_eq_true rfl⟩) hK hP (va_recv hK hP (ci := 1) (q0 := 0) rfl rfl) rfl rfl hl.1 (Nat.le_of_ble_eq_true rfl) dX1_tryMove_63 ⟨Nat.zero_le _, Nat.zero_le _⟩ hS (fun r63 H1 locs p63 hk hS => ?_)
            have hP := hk _ hP
            clear hk
            generalize H1 = H at hP hS ⊢
            refine lv_if_eq (tgt := 74) hx hb dX1_tryMove_66 (by decide) (fun c66 => ?_) (fun c66 => ?_)
            · refine lv_iload_n hx hb dX1_tryMove_74 rfl (lv_at hl 0 rfl) ?_
              refine go_mri X hK hS ((bd_29, rc_35, dd_29, xkp)) hP hD dX1_tryMove_75 ?_
              exact ⟨p29.1.trans (go_tv_k hnl (fun h => (go_bo p63).1 c66 (hko.mpr h.2))).symm, p29.2, fun j hj => hz j (by omega)⟩
            · refine lv_bipush (v := (-6)) hx hb dX1_tryMove_69 (by decide) ?_
              refine lv_goto (tgt := 75) hx hb dX1_tryMove_71 (by decide) ?_
              refine go_mri X hK hS ((bd_29, rc_35, dd_29, xkp)) hP hD dX1_tryMove_75 ?_
              exact ⟨(go_tv_6 hnl ⟨hn0, hko.mp ((go_bo p63).2 c66)⟩).symm, p29.2, fun j hj => hz j (by omega)⟩
        · have hnl : go_nl (go_tb (go_B a) P K) K = 0 := (nI_eq (a := go_nl (go_tb (go_B a) P K) K) (b := 0) (by omega) (by decide)).mp (p40.symm.trans c43)
          refine lv_bipush (v := (-5)) hx hb dX1_tryMove_46 (by decide) ?_
          refine go_mri X hK hS ((bd_29, rc_35, dd_29, xkp)) hP hD dX1_tryMove_48 ?_
          exact ⟨(go_tv_5 hnl).symm, p29.2, fun j hj => hz j (by omega)⟩
      · have c5 : ¬ 49 ≤ k := fun h => c5 ((nI_leI (a := 49) (b := k) (by omega) (by omega)).mpr h)
        refine lv_aload_n hx hb dX1_tryMove_8 rfl (lv_at hl 0 rfl) ?_
        refine va_get (D := D) (ci := 1) (v := .ref (b 8)) (C := RX1) (T := TX1) (N := 9) hx hb hts in_X1 hown hK hP 0 rfl rfl 8 (by decide) (hts _ q202) (fun _ h9 => h9) rfl dX1_tryMove_9 ?_
        refine lv_iload_n hx hb dX1_tryMove_12 rfl (lv_at hl 3 rfl) ?_
        refine lv_aload_n hx hb dX1_tryMove_13 rfl (lv_at hl 0 rfl) ?_
        refine va_get (D := D) (ci := 1) (v := .ref (b 1)) (C := RX1) (T := TX1) (N := 9) hx hb hts in_X1 hown hK hP 0 rfl rfl 0 (by decide) (hts _ q194) (fun _ h9 => h9) rfl dX1_tryMove_14 ?_
        refine lv_iload_n hx hb dX1_tryMove_17 rfl (lv_at hl 3 rfl) ?_
        refine go_ild hx hb hK hP 1 0 rfl rfl k (rfl) (by omega) (by decide) dX1_tryMove_18 ?_
        refine go_ist hx hb hK hP hD hS 8 7 rfl rfl k (rfl) (by omega) (by decide) dX1_tryMove_19 (fun kp_19 H locs ekp_19 hP hD hS => ?_)
        have hP : va_P D go_cl (go_M b cs bd hi hf hs dn cp rc dd kp_19) H := hP
        have hD : va_D A (go_M b cs bd hi hf hs dn cp rc dd kp_19) := hD
        refine lv_iinc (v := nI (k + 1)) (lv' := [(3, .int (nI (k + 1))), (0, .ref (b 0)), (1, .int (nI P)), (2, .int (nI K))]) hx hb dX1_tryMove_20 hl (k := 3) rfl (nI_add k 1) (by decide) rfl (fun ls hl => ?_)
        refine lv_goto (tgt := 2) hx hb dX1_tryMove_23 (by decide) ?_
        exact ih (k + 1) kp_19 (by omega) (by omega) (go_fill (g := bd) hz ekp_19 rfl) _ _ _ hP hD hS (lv_sub hl [1, 2, 3, 0] rfl)
  refine lv_iconst (v := nI 0) hx hb dX1_tryMove_0 (by decide) ?_
  refine lv_istore_n (lv' := [(3, .int (nI 0)), (0, .ref (b 0)), (1, .int (nI P)), (2, .int (nI K))]) hx hb dX1_tryMove_1 rfl hl (by decide) rfl (fun ls hl => ?_)
  exact lp2 50 0 kp (by omega) (by omega) (fun j h => absurd h (Nat.not_lt_zero j)) _ _ _ hP hD hS (lv_sub hl [1, 2, 3, 0] rfl)
set_option maxHeartbeats 4000000 in
set_option maxRecDepth 100000 in
theorem gX1_play  (pa : Int32) (qa : Int32) (hM : go_MI a bd hi hf hs dn cp) (hI : go_AI a) : ∀ sz : Nat, Met l yX1_play (ws_ yX1_play cX1_play 4 (some .int)) ({ frames := 5, cells := 0, slots := 0, locals := 118 } : Room) (go_mP D (go_M b cs bd hi hf hs dn cp rc dd kp) (go_Mt cs) sz [.ref (b 0), .int pa, .int qa]) (go_mQi (fun (r : Int32) (u : (Nat → Int32) × (Nat → Int32) × (Nat → Int32) × (Nat → Int32) × Int32 × (Nat → Int32) × (Nat → Int32) × (Nat → Int32) × (Nat → Int32)) => match u with | (bd', hi', hf', hs', dn', cp', rc', dd', kp') => r = go_aPlay a pa qa ∧ go_MI (go_sPlay a pa qa) bd' hi' hf' hs' dn' cp') D (go_Mt cs) (fun u : (Nat → Int32) × (Nat → Int32) × (Nat → Int32) × (Nat → Int32) × Int32 × (Nat → Int32) × (Nat → Int32) × (Nat → Int32) × (Nat → Int32) => match u with | (bd', hi', hf', hs', dn', cp', rc', dd', kp') => go_M b cs bd' hi' hf' hs' dn' cp' rc' dd' kp') (va_A (go_M b cs bd hi hf hs dn cp rc dd kp) sz)) 0 0 (va_A (go_M b cs bd hi hf hs dn cp rc dd kp) sz) := by
  refine go_mMet (Qf := fun A => go_mQi (fun (r : Int32) (u : (Nat → Int32) × (Nat → Int32) × (Nat → Int32) × (Nat → Int32) × Int32 × (Nat → Int32) × (Nat → Int32) × (Nat → Int32) × (Nat → Int32)) => match u with | (bd', hi', hf', hs', dn', cp', rc', dd', kp') => r = go_aPlay a pa qa ∧ go_MI (go_sPlay a pa qa) bd' hi' hf' hs' dn' cp') D (go_Mt cs) (fun u : (Nat → Int32) × (Nat → Int32) × (Nat → Int32) × (Nat → Int32) × Int32 × (Nat → Int32) × (Nat → Int32) × (Nat → Int32) × (Nat → Int32) => match u with | (bd', hi', hf', hs', dn', cp', rc', dd', kp') => go_M b cs bd' hi' hf' hs' dn' cp' rc' dd' kp') A) (by decide) (Nat.le_of_ble_eq_true rfl) ?_
  intro p e s m below meth c ls A X hK hP hD hA hS hl
  have hl : lv_has ls 4 [(0, .ref (b 0)), (1, .int pa), (2, .int qa)] := hl
  obtain ⟨hx, hb, hml, hr, hlocks, hown, hts⟩ := id X
  have hP : va_P D go_cl (go_M b cs bd hi hf hs dn cp rc dd kp) s.heap := hP
  have hdn := hM.2.2.2.2.1
  have hn40 := hI.2.1
  refine lv_aload_n hx hb dX1_play_0 rfl (lv_at hl 0 rfl) ?_
  refine lv_iload_n hx hb dX1_play_1 rfl (lv_at hl 1 rfl) ?_
  refine go_pcI (As := [.int pa]) (rest := []) X (gX1_isPlayer pa) (cwV 1 hts (lw_V q227 q229 qs12 q27 q230) rfl rfl rfl (by decide +kernel) ⟨Nat.le_of_ble_eq_true rfl, Nat.le_of_ble_eq_true rfl⟩) hK hP (va_recv hK hP (ci := 1) (q0 := 0) rfl rfl) rfl rfl hl.1 (Nat.le_of_ble_eq_true rfl) dX1_play_2 ⟨Nat.zero_le _, Nat.zero_le _⟩ hS (fun r2 H1 locs p2 hk hS => ?_)
  have hP := hk _ hP
  clear hk
  generalize H1 = H at hP hS ⊢
  refine lv_if_eq (tgt := 16) hx hb dX1_play_5 (by decide) (fun c5 => ?_) (fun c5 => ?_)
  · refine lv_iconst (v := (-1)) hx hb dX1_play_16 (by decide) ?_
    refine go_mri X hK hS ((bd, hi, hf, hs, dn, cp, rc, dd, kp)) hP hD dX1_play_17 ?_
    have hh := go_play_bad (a := a) (p := pa) (q := qa) (fun h => (go_bo p2).1 c5 h.1)
    rw [hh.1, hh.2]
    exact ⟨rfl, hM⟩
  · refine lv_aload_n hx hb dX1_play_8 rfl (lv_at hl 0 rfl) ?_
    refine lv_iload_n hx hb dX1_play_9 rfl (lv_at hl 2 rfl) ?_
    refine go_pcI (As := [.int qa]) (rest := []) X (gX1_isPoint qa) (cwV 1 hts (lw_V q231 q233 qs13 q27 q234) rfl rfl rfl (by decide +kernel) ⟨Nat.le_of_ble_eq_true rfl, Nat.le_of_ble_eq_true rfl⟩) hK hP (va_recv hK hP (ci := 1) (q0 := 0) rfl rfl) rfl rfl hl.1 (Nat.le_of_ble_eq_true rfl) dX1_play_10 ⟨Nat.zero_le _, Nat.zero_le _⟩ hS (fun r10 H1 locs p10 hk hS => ?_)
    have hP := hk _ hP
    clear hk
    generalize H1 = H at hP hS ⊢
    refine lv_if_ne (tgt := 18) hx hb dX1_play_13 (by decide) (fun c13 => ?_) (fun c13 => ?_)
    · obtain ⟨P, hP2, rfl⟩ := (go_bo p2).2 c5
      obtain ⟨K, hK9, rfl⟩ := (go_bo p10).2 c13
      refine lv_aload_n hx hb dX1_play_18 rfl (lv_at hl 0 rfl) ?_
      refine va_get (D := D) (ci := 1) (v := .ref (b 1)) (C := RX1) (T := TX1) (N := 9) hx hb hts in_X1 hown hK hP 0 rfl rfl 0 (by decide) (hts _ q194) (fun _ h9 => h9) rfl dX1_play_19 ?_
      refine lv_iload_n hx hb dX1_play_22 rfl (lv_at hl 2 rfl) ?_
      refine go_ild hx hb hK hP 1 0 rfl rfl K (rfl) (by omega) (by decide) dX1_play_23 ?_
      refine lv_iconst (v := nI 2) hx hb dX1_play_24 (by decide) ?_
      refine lv_icmp_eq (tgt := 31) hx hb dX1_play_25 (by decide) (fun c25 => ?_) (fun c25 => ?_)
      · have hB9 : go_B a K = 2 := (go_ba_eq hM.1 hI.1 hK9 (by decide)).mp c25
        refine lv_aload_n hx hb dX1_play_31 rfl (lv_at hl 0 rfl) ?_
        refine va_get (D := D) (ci := 1) (v := .int dn) (C := RX1) (T := TX1) (N := 9) hx hb hts in_X1 hown hK hP 0 rfl rfl 4 (by decide) (hts _ q198) (fun _ h9 => h9) rfl dX1_play_32 ?_
        refine lv_bipush (v := nI 40) hx hb dX1_play_35 (by decide) ?_
        refine lv_icmp_ne (tgt := 43) hx hb dX1_play_37 (by decide) (fun c37 => ?_) (fun c37 => ?_)
        · have hn40e : ¬ go_n a = 40 := fun e => c37 (by rw [hdn, e])
          refine lv_aload_n hx hb dX1_play_43 rfl (lv_at hl 0 rfl) ?_
          refine lv_iload_n hx hb dX1_play_44 rfl (lv_at hl 1 rfl) ?_
          refine lv_iload_n hx hb dX1_play_45 rfl (lv_at hl 2 rfl) ?_
          refine go_mcI (As := [.int (nI P), .int (nI K)]) (rest := []) X (gX1_tryMove P K hP2 hK9 hM hI) (cwV 2 hts (lw_V q235 q237 qs14 q27 q238) rfl rfl rfl (by decide +kernel) ⟨Nat.le_of_ble_eq_true rfl, Nat.le_of_ble_eq_true rfl⟩) hK hP hD hA (va_recv hK hP (ci := 1) (q0 := 0) rfl rfl) rfl rfl hl.1 (Nat.le_of_ble_eq_true rfl) dX1_play_46 ⟨Nat.zero_le _, Nat.zero_le _⟩ hS (fun r46 u46 H1 locs p46 hP hD hS hk => ?_)
          clear hk
          obtain ⟨bd_46, rc_46, dd_46, kp_46⟩ := u46
          generalize H1 = H at hP hS ⊢
          have hP : va_P D go_cl (go_M b cs bd_46 hi hf hs dn cp rc_46 dd_46 kp_46) H := hP
          have hD : va_D A (go_M b cs bd_46 hi hf hs dn cp rc_46 dd_46 kp_46) := hD
          try dsimp only at p46
          refine lv_istore_n (lv' := [(3, .int r46), (0, .ref (b 0)), (1, .int (nI P)), (2, .int (nI K))]) hx hb dX1_play_49 rfl hl (by decide) rfl (fun ls hl => ?_)
          refine lv_iload_n hx hb dX1_play_50 rfl (lv_at hl 0 rfl) ?_
          refine lv_if_ge (tgt := 60) hx hb dX1_play_51 (by decide) (fun c51 => ?_) (fun c51 => ?_)
          · refine lv_aload_n hx hb dX1_play_60 rfl (lv_at hl 1 rfl) ?_
            refine go_mcV (As := []) (rest := []) X (gX1_note (go_n a) (by omega) hdn) (cwV 0 hts (lw_V q267 q269 qs22 q27 q270) rfl rfl rfl (by decide +kernel) ⟨Nat.le_of_ble_eq_true rfl, Nat.le_of_ble_eq_true rfl⟩) hK hP hD hA (va_recv hK hP (ci := 1) (q0 := 0) rfl rfl) rfl rfl hl.1 (Nat.le_of_ble_eq_true rfl) dX1_play_61 ⟨Nat.zero_le _, Nat.zero_le _⟩ hS (fun u61 H1 locs p61 hP hD hS => ?_)
            obtain ⟨hi_61, hf_61, hs_61, dn_61⟩ := u61
            generalize H1 = H at hP hS ⊢
            have hP : va_P D go_cl (go_M b cs bd_46 hi_61 hf_61 hs_61 dn_61 cp rc_46 dd_46 kp_46) H := hP
            have hD : va_D A (go_M b cs bd_46 hi_61 hf_61 hs_61 dn_61 cp rc_46 dd_46 kp_46) := hD
            try dsimp only at p61
            refine lv_aload_n hx hb dX1_play_64 rfl (lv_at hl 1 rfl) ?_
            refine va_get (D := D) (ci := 1) (v := .ref (b 5)) (C := RX1) (T := TX1) (N := 9) hx hb hts in_X1 hown hK hP 0 rfl rfl 5 (by decide) (hts _ q199) (fun _ h9 => h9) rfl dX1_play_65 ?_
            refine lv_iload_n hx hb dX1_play_68 rfl (lv_at hl 2 rfl) ?_
            refine lv_aload_n hx hb dX1_play_69 rfl (lv_at hl 1 rfl) ?_
            refine va_get (D := D) (ci := 1) (v := .ref (b 5)) (C := RX1) (T := TX1) (N := 9) hx hb hts in_X1 hown hK hP 0 rfl rfl 5 (by decide) (hts _ q199) (fun _ h9 => h9) rfl dX1_play_70 ?_
            refine lv_iload_n hx hb dX1_play_73 rfl (lv_at hl 2 rfl) ?_
            refine go_ild hx hb hK hP 5 4 rfl rfl P (rfl) (by omega) (by decide) dX1_play_74 ?_
            refine lv_iload_n hx hb dX1_play_75 rfl (lv_at hl 0 rfl) ?_
            refine lv_iadd hx hb dX1_play_76 ?_
            refine lv_topi (fun v76 e76 => ?_)
            refine go_ist hx hb hK hP hD hS 5 4 rfl rfl P (rfl) (by omega) (by decide) dX1_play_77 (fun cp_77 H locs ecp_77 hP hD hS => ?_)
            have hP : va_P D go_cl (go_M b cs bd_46 hi_61 hf_61 hs_61 dn_61 cp_77 rc_46 dd_46 kp_46) H := hP
            have hD : va_D A (go_M b cs bd_46 hi_61 hf_61 hs_61 dn_61 cp_77 rc_46 dd_46 kp_46) := hD
            refine lv_iload_n hx hb dX1_play_78 rfl (lv_at hl 0 rfl) ?_
            refine go_mri X hK hS ((bd_46, hi_61, hf_61, hs_61, dn_61, cp_77, rc_46, dd_46, kp_46)) hP hD dX1_play_79 ?_
            have hh := go_play_pos (a := a) hP2 hK9 hB9 hn40e (by rw [← p46.1]; exact c51)
            rw [hh.1, hh.2]
            have etk : r46 = nI (go_tk (go_B a) P K) := p46.1.trans (go_tv_pos (by rw [← p46.1]; exact c51))
            exact ⟨p46.1, go_MI_new hM p46.2.1 p61.1 (fun j hj => (p61.2.1 j hj).trans (p46.2.2 j hj)) p61.2.2.1 p61.2.2.2.1 p61.2.2.2.2 hP2 (by rw [ecp_77, e76, etk])⟩
          · refine lv_aload_n hx hb dX1_play_54 rfl (lv_at hl 1 rfl) ?_
            refine go_mcV (As := []) (rest := []) X (gX1_putBack) (cwV 0 hts (lw_V q263 q265 qs21 q27 q266) rfl rfl rfl (by decide +kernel) ⟨Nat.le_of_ble_eq_true rfl, Nat.le_of_ble_eq_true rfl⟩) hK hP hD hA (va_recv hK hP (ci := 1) (q0 := 0) rfl rfl) rfl rfl hl.1 (Nat.le_of_ble_eq_true rfl) dX1_play_55 ⟨Nat.zero_le _, Nat.zero_le _⟩ hS (fun u55 H1 locs p55 hP hD hS => ?_)
            obtain ⟨bd_55, rfl⟩ : ∃ z, z = u55 := ⟨_, rfl⟩
            generalize H1 = H at hP hS ⊢
            have hP : va_P D go_cl (go_M b cs bd_55 hi hf hs dn cp rc_46 dd_46 kp_46) H := hP
            have hD : va_D A (go_M b cs bd_55 hi hf hs dn cp rc_46 dd_46 kp_46) := hD
            try dsimp only at p55
            refine lv_iload_n hx hb dX1_play_58 rfl (lv_at hl 0 rfl) ?_
            refine go_mri X hK hS ((bd_55, hi, hf, hs, dn, cp, rc_46, dd_46, kp_46)) hP hD dX1_play_59 ?_
            have hh := go_play_neg (a := a) hP2 hK9 hB9 hn40e (by rw [← p46.1]; exact c51)
            rw [hh.1, hh.2]
            exact ⟨p46.1, go_MI_bd hM (fun j hj => (p55 j hj).trans (p46.2.2 j hj))⟩
        · have hn40e : go_n a = 40 := (nI_eq (by omega) (by decide)).mp (hdn.symm.trans c37)
          refine lv_bipush (v := (-3)) hx hb dX1_play_40 (by decide) ?_
          refine go_mri X hK hS ((bd, hi, hf, hs, dn, cp, rc, dd, kp)) hP hD dX1_play_42 ?_
          have hh := go_play_full (a := a) hP2 hK9 hB9 hn40e
          rw [hh.1, hh.2]
          exact ⟨rfl, hM⟩
      · have hB9 : ¬ go_B a K = 2 := fun e => c25 ((go_ba_eq hM.1 hI.1 hK9 (by decide)).mpr e)
        refine lv_bipush (v := (-2)) hx hb dX1_play_28 (by decide) ?_
        refine go_mri X hK hS ((bd, hi, hf, hs, dn, cp, rc, dd, kp)) hP hD dX1_play_30 ?_
        have hh := go_play_tk (a := a) hP2 hK9 hB9
        rw [hh.1, hh.2]
        exact ⟨rfl, hM⟩
    · refine lv_iconst (v := (-1)) hx hb dX1_play_16 (by decide) ?_
      refine go_mri X hK hS ((bd, hi, hf, hs, dn, cp, rc, dd, kp)) hP hD dX1_play_17 ?_
      have hh := go_play_bad (a := a) (p := pa) (q := qa) (fun h => (go_bo p10).1 c13 h.2)
      rw [hh.1, hh.2]
      exact ⟨rfl, hM⟩
set_option maxHeartbeats 4000000 in
set_option maxRecDepth 100000 in
theorem gX1_pass   (hM : go_MI a bd hi hf hs dn cp) (hI : go_AI a) : ∀ sz : Nat, Met l yX1_pass (ws_ yX1_pass cX1_pass 2 (some .int)) ({ frames := 1, cells := 0, slots := 0, locals := 21 } : Room) (go_mP D (go_M b cs bd hi hf hs dn cp rc dd kp) (go_Mt cs) sz [.ref (b 0)]) (go_mQi (fun (r : Int32) (u : (Nat → Int32) × (Nat → Int32) × (Nat → Int32) × Int32 × (Nat → Int32)) => match u with | (hi', hf', hs', dn', kp') => r = go_aPass a ∧ go_MI (go_sPass a) bd hi' hf' hs' dn' cp) D (go_Mt cs) (fun u : (Nat → Int32) × (Nat → Int32) × (Nat → Int32) × Int32 × (Nat → Int32) => match u with | (hi', hf', hs', dn', kp') => go_M b cs bd hi' hf' hs' dn' cp rc dd kp') (va_A (go_M b cs bd hi hf hs dn cp rc dd kp) sz)) 0 0 (va_A (go_M b cs bd hi hf hs dn cp rc dd kp) sz) := by
  refine go_mMet (Qf := fun A => go_mQi (fun (r : Int32) (u : (Nat → Int32) × (Nat → Int32) × (Nat → Int32) × Int32 × (Nat → Int32)) => match u with | (hi', hf', hs', dn', kp') => r = go_aPass a ∧ go_MI (go_sPass a) bd hi' hf' hs' dn' cp) D (go_Mt cs) (fun u : (Nat → Int32) × (Nat → Int32) × (Nat → Int32) × Int32 × (Nat → Int32) => match u with | (hi', hf', hs', dn', kp') => go_M b cs bd hi' hf' hs' dn' cp rc dd kp') A) (by decide) (Nat.le_of_ble_eq_true rfl) ?_
  intro p e s m below meth c ls A X hK hP hD hA hS hl
  have hl : lv_has ls 2 [(0, .ref (b 0))] := hl
  obtain ⟨hx, hb, hml, hr, hlocks, hown, hts⟩ := id X
  have hP : va_P D go_cl (go_M b cs bd hi hf hs dn cp rc dd kp) s.heap := hP
  have hdn := hM.2.2.2.2.1
  have hn40 := hI.2.1
  refine lv_aload_n hx hb dX1_pass_0 rfl (lv_at hl 0 rfl) ?_
  refine va_get (D := D) (ci := 1) (v := .int dn) (C := RX1) (T := TX1) (N := 9) hx hb hts in_X1 hown hK hP 0 rfl rfl 4 (by decide) (hts _ q198) (fun _ h9 => h9) rfl dX1_pass_1 ?_
  refine lv_bipush (v := nI 40) hx hb dX1_pass_4 (by decide) ?_
  refine lv_icmp_ne (tgt := 12) hx hb dX1_pass_6 (by decide) (fun c6 => ?_) (fun c6 => ?_)
  · have hn40e : ¬ go_n a = 40 := fun e => c6 (by rw [hdn, e])
    refine lv_iconst (v := nI 0) hx hb dX1_pass_12 (by decide) ?_
    refine lv_istore_n (lv' := [(1, .int (nI 0)), (0, .ref (b 0))]) hx hb dX1_pass_13 rfl hl (by decide) rfl (fun ls hl => ?_)
    have lp14 : ∀ (n : Nat) (k : Nat) (xkp : (Nat → Int32)), 50 ≤ k + n → k ≤ 49 → (∀ j, j < k → xkp j = bd j) → ∀ (H : Heap) (locs : List Loc) (ls : Array Slot), va_P D go_cl (go_M b cs bd hi hf hs dn cp rc dd xkp) H → va_D A (go_M b cs bd hi hf hs dn cp rc dd xkp) → va_S A s.heap H locs → lv_has ls 2 [(0, .ref (b 0)), (1, .int (nI k))] → W p l e ({ frames := 1, cells := 0, slots := 0, locals := 21 } : Room) s m ([.ref (b 0)] : List Value).toArray below meth c H locs 0 0 (MQ below (go_mQi (fun (r : Int32) (u : (Nat → Int32) × (Nat → Int32) × (Nat → Int32) × Int32 × (Nat → Int32)) => match u with | (hi', hf', hs', dn', kp') => r = go_aPass a ∧ go_MI (go_sPass a) bd hi' hf' hs' dn' cp) D (go_Mt cs) (fun u : (Nat → Int32) × (Nat → Int32) × (Nat → Int32) × Int32 × (Nat → Int32) => match u with | (hi', hf', hs', dn', kp') => go_M b cs bd hi' hf' hs' dn' cp rc dd kp') A) ([.ref (b 0)] : List Value).toArray s 0 0 A) (F0 m 14 ls []) := by
      intro n
      induction n with
      | zero =>
        intro k xkp hn hk hz
        exact absurd hn (by omega)
      | succ n ih =>
        intro k xkp hn hk hz H locs ls hP hD hS hl
        refine lv_iload_n hx hb dX1_pass_14 rfl (lv_at hl 1 rfl) ?_
        refine lv_bipush (v := nI 49) hx hb dX1_pass_15 (by decide) ?_
        refine lv_icmp_ge (tgt := 38) hx hb dX1_pass_17 (by decide) (fun c17 => ?_) (fun c17 => ?_)
        · have c17 : 49 ≤ k := (nI_leI (a := 49) (b := k) (by omega) (by omega)).mp c17
          refine lv_aload_n hx hb dX1_pass_38 rfl (lv_at hl 0 rfl) ?_
          refine go_mcV (As := []) (rest := []) X (gX1_note (go_n a) (by omega) hdn) (cwV 0 hts (lw_V q267 q269 qs22 q27 q270) rfl rfl rfl (by decide +kernel) ⟨Nat.le_of_ble_eq_true rfl, Nat.le_of_ble_eq_true rfl⟩) hK hP hD hA (va_recv hK hP (ci := 1) (q0 := 0) rfl rfl) rfl rfl hl.1 (Nat.le_of_ble_eq_true rfl) dX1_pass_39 ⟨Nat.zero_le _, Nat.zero_le _⟩ hS (fun u39 H1 locs p39 hP hD hS => ?_)
          obtain ⟨hi_39, hf_39, hs_39, dn_39⟩ := u39
          generalize H1 = H at hP hS ⊢
          have hP : va_P D go_cl (go_M b cs bd hi_39 hf_39 hs_39 dn_39 cp rc dd xkp) H := hP
          have hD : va_D A (go_M b cs bd hi_39 hf_39 hs_39 dn_39 cp rc dd xkp) := hD
          try dsimp only at p39
          refine lv_aload_n hx hb dX1_pass_42 rfl (lv_at hl 0 rfl) ?_
          refine va_get (D := D) (ci := 1) (v := .int dn_39) (C := RX1) (T := TX1) (N := 9) hx hb hts in_X1 hown hK hP 0 rfl rfl 4 (by decide) (hts _ q198) (fun _ h9 => h9) rfl dX1_pass_43 ?_
          refine go_mri X hK hS ((hi_39, hf_39, hs_39, dn_39, xkp)) hP hD dX1_pass_46 ?_
          refine ⟨?_, go_MI_pass hM hn40e p39.1 (fun j hj => (p39.2.1 j hj).trans (hz j (by omega))) p39.2.2.1 p39.2.2.2.1 p39.2.2.2.2⟩
          unfold go_aPass
          rw [go_ite_f hn40e]
          exact p39.1
        · have c17 : ¬ 49 ≤ k := fun h => c17 ((nI_leI (a := 49) (b := k) (by omega) (by omega)).mpr h)
          refine lv_aload_n hx hb dX1_pass_20 rfl (lv_at hl 0 rfl) ?_
          refine va_get (D := D) (ci := 1) (v := .ref (b 8)) (C := RX1) (T := TX1) (N := 9) hx hb hts in_X1 hown hK hP 0 rfl rfl 8 (by decide) (hts _ q202) (fun _ h9 => h9) rfl dX1_pass_21 ?_
          refine lv_iload_n hx hb dX1_pass_24 rfl (lv_at hl 1 rfl) ?_
          refine lv_aload_n hx hb dX1_pass_25 rfl (lv_at hl 0 rfl) ?_
          refine va_get (D := D) (ci := 1) (v := .ref (b 1)) (C := RX1) (T := TX1) (N := 9) hx hb hts in_X1 hown hK hP 0 rfl rfl 0 (by decide) (hts _ q194) (fun _ h9 => h9) rfl dX1_pass_26 ?_
          refine lv_iload_n hx hb dX1_pass_29 rfl (lv_at hl 1 rfl) ?_
          refine go_ild hx hb hK hP 1 0 rfl rfl k (rfl) (by omega) (by decide) dX1_pass_30 ?_
          refine go_ist hx hb hK hP hD hS 8 7 rfl rfl k (rfl) (by omega) (by decide) dX1_pass_31 (fun kp_31 H locs ekp_31 hP hD hS => ?_)
          have hP : va_P D go_cl (go_M b cs bd hi hf hs dn cp rc dd kp_31) H := hP
          have hD : va_D A (go_M b cs bd hi hf hs dn cp rc dd kp_31) := hD
          refine lv_iinc (v := nI (k + 1)) (lv' := [(1, .int (nI (k + 1))), (0, .ref (b 0))]) hx hb dX1_pass_32 hl (k := 1) rfl (nI_add k 1) (by decide) rfl (fun ls hl => ?_)
          refine lv_goto (tgt := 14) hx hb dX1_pass_35 (by decide) ?_
          exact ih (k + 1) kp_31 (by omega) (by omega) (go_fill (g := bd) hz ekp_31 rfl) _ _ _ hP hD hS (lv_sub hl [1, 0] rfl)
    exact lp14 50 0 kp (by omega) (by omega) (fun j h => absurd h (Nat.not_lt_zero j)) _ _ _ hP hD hS (lv_sub hl [1, 0] rfl)
  · have hn40e : go_n a = 40 := (nI_eq (by omega) (by decide)).mp (hdn.symm.trans c6)
    refine lv_bipush (v := (-3)) hx hb dX1_pass_9 (by decide) ?_
    refine go_mri X hK hS ((hi, hf, hs, dn, kp)) hP hD dX1_pass_11 ?_
    unfold go_aPass go_sPass
    rw [go_ite_t hn40e, go_ite_t hn40e]
    exact ⟨rfl, hM⟩
set_option maxHeartbeats 4000000 in
set_option maxRecDepth 100000 in
theorem gX1_undo   (hM : go_MI a bd hi hf hs dn cp) (hI : go_AI a) : ∀ sz : Nat, Met l yX1_undo (ws_ yX1_undo cX1_undo 2 (some .int)) ({ frames := 0, cells := 0, slots := 0, locals := 0 } : Room) (go_mP D (go_M b cs bd hi hf hs dn cp rc dd kp) (go_Mt cs) sz [.ref (b 0)]) (go_mQi (fun (r : Int32) (u : (Nat → Int32) × Int32 × (Nat → Int32)) => match u with | (bd', dn', cp') => r = go_aUndo a ∧ go_MI (go_sUndo a) bd' hi hf hs dn' cp') D (go_Mt cs) (fun u : (Nat → Int32) × Int32 × (Nat → Int32) => match u with | (bd', dn', cp') => go_M b cs bd' hi hf hs dn' cp' rc dd kp) (va_A (go_M b cs bd hi hf hs dn cp rc dd kp) sz)) 0 0 (va_A (go_M b cs bd hi hf hs dn cp rc dd kp) sz) := by
  refine go_mMet (Qf := fun A => go_mQi (fun (r : Int32) (u : (Nat → Int32) × Int32 × (Nat → Int32)) => match u with | (bd', dn', cp') => r = go_aUndo a ∧ go_MI (go_sUndo a) bd' hi hf hs dn' cp') D (go_Mt cs) (fun u : (Nat → Int32) × Int32 × (Nat → Int32) => match u with | (bd', dn', cp') => go_M b cs bd' hi hf hs dn' cp' rc dd kp) A) (by decide) (Nat.le_of_ble_eq_true rfl) ?_
  intro p e s m below meth c ls A X hK hP hD hA hS hl
  have hl : lv_has ls 2 [(0, .ref (b 0))] := hl
  obtain ⟨hx, hb, hml, hr, hlocks, hown, hts⟩ := id X
  have hP : va_P D go_cl (go_M b cs bd hi hf hs dn cp rc dd kp) s.heap := hP
  have hdn := hM.2.2.2.2.1
  have hn40 := hI.2.1
  refine lv_aload_n hx hb dX1_undo_0 rfl (lv_at hl 0 rfl) ?_
  refine va_get (D := D) (ci := 1) (v := .int dn) (C := RX1) (T := TX1) (N := 9) hx hb hts in_X1 hown hK hP 0 rfl rfl 4 (by decide) (hts _ q198) (fun _ h9 => h9) rfl dX1_undo_1 ?_
  refine lv_if_ne (tgt := 10) hx hb dX1_undo_4 (by decide) (fun c4 => ?_) (fun c4 => ?_)
  · have hn0 : ¬ go_n a = 0 := fun e => c4 (by rw [hdn, e]; rfl)
    refine lv_aload_n hx hb dX1_undo_10 rfl (lv_at hl 0 rfl) ?_
    refine lv_dup hx hb dX1_undo_11 rfl ?_
    refine va_get (D := D) (ci := 1) (v := .int dn) (C := RX1) (T := TX1) (N := 9) hx hb hts in_X1 hown hK hP 0 rfl rfl 4 (by decide) (hts _ q198) (fun _ h9 => h9) rfl dX1_undo_12 ?_
    refine lv_iconst (v := nI 1) hx hb dX1_undo_15 (by decide) ?_
    refine lv_isub hx hb dX1_undo_16 ?_
    refine lv_topi (fun v16 e16 => ?_)
    obtain rfl : v16 = nI (go_n a - 1) := e16.trans (by rw [hdn]; exact pk_sub (by omega))
    refine va_put (D := D) (ci := 1) (v := .int (nI (go_n a - 1))) (ty := .int) (C := RX1) (T := TX1) (N := 9) hx hb hts in_X1 tyX1 tyX1_ok nmX1 hown hK hP hD hS 0 rfl rfl 4 (by decide) (hts _ q198) (fun _ h9 => h9) rfl (by decide +kernel) rfl rfl (Nat.le_of_ble_eq_true rfl) dX1_undo_17 (fun H locs hP hD hS => ?_)
    have hP : va_P D go_cl (go_M b cs bd hi hf hs (nI (go_n a - 1)) cp rc dd kp) H := hP
    have hD : va_D A (go_M b cs bd hi hf hs (nI (go_n a - 1)) cp rc dd kp) := hD
    refine lv_iconst (v := nI 0) hx hb dX1_undo_20 (by decide) ?_
    refine lv_istore_n (lv' := [(1, .int (nI 0)), (0, .ref (b 0))]) hx hb dX1_undo_21 rfl hl (by decide) rfl (fun ls hl => ?_)
    have lp22 : ∀ (n : Nat) (k : Nat) (xbd : (Nat → Int32)), 50 ≤ k + n → k ≤ 49 → (∀ j, j < k → xbd j = hi (49 * (go_n a - 1) + j)) → ∀ (H : Heap) (locs : List Loc) (ls : Array Slot), va_P D go_cl (go_M b cs xbd hi hf hs (nI (go_n a - 1)) cp rc dd kp) H → va_D A (go_M b cs xbd hi hf hs (nI (go_n a - 1)) cp rc dd kp) → va_S A s.heap H locs → lv_has ls 2 [(0, .ref (b 0)), (1, .int (nI k))] → W p l e ({ frames := 0, cells := 0, slots := 0, locals := 0 } : Room) s m ([.ref (b 0)] : List Value).toArray below meth c H locs 0 0 (MQ below (go_mQi (fun (r : Int32) (u : (Nat → Int32) × Int32 × (Nat → Int32)) => match u with | (bd', dn', cp') => r = go_aUndo a ∧ go_MI (go_sUndo a) bd' hi hf hs dn' cp') D (go_Mt cs) (fun u : (Nat → Int32) × Int32 × (Nat → Int32) => match u with | (bd', dn', cp') => go_M b cs bd' hi hf hs dn' cp' rc dd kp) A) ([.ref (b 0)] : List Value).toArray s 0 0 A) (F0 m 22 ls []) := by
      intro n
      induction n with
      | zero =>
        intro k xbd hn hk hz
        exact absurd hn (by omega)
      | succ n ih =>
        intro k xbd hn hk hz H locs ls hP hD hS hl
        refine lv_iload_n hx hb dX1_undo_22 rfl (lv_at hl 1 rfl) ?_
        refine lv_bipush (v := nI 49) hx hb dX1_undo_23 (by decide) ?_
        refine lv_icmp_ge (tgt := 54) hx hb dX1_undo_25 (by decide) (fun c25 => ?_) (fun c25 => ?_)
        · have c25 : 49 ≤ k := (nI_leI (a := 49) (b := k) (by omega) (by omega)).mp c25
          refine lv_aload_n hx hb dX1_undo_54 rfl (lv_at hl 0 rfl) ?_
          refine va_get (D := D) (ci := 1) (v := .ref (b 5)) (C := RX1) (T := TX1) (N := 9) hx hb hts in_X1 hown hK hP 0 rfl rfl 5 (by decide) (hts _ q199) (fun _ h9 => h9) rfl dX1_undo_55 ?_
          refine lv_iconst (v := nI 0) hx hb dX1_undo_58 (by decide) ?_
          refine lv_aload_n hx hb dX1_undo_59 rfl (lv_at hl 0 rfl) ?_
          refine va_get (D := D) (ci := 1) (v := .ref (b 3)) (C := RX1) (T := TX1) (N := 9) hx hb hts in_X1 hown hK hP 0 rfl rfl 2 (by decide) (hts _ q196) (fun _ h9 => h9) rfl dX1_undo_60 ?_
          refine lv_aload_n hx hb dX1_undo_63 rfl (lv_at hl 0 rfl) ?_
          refine va_get (D := D) (ci := 1) (v := .int (nI (go_n a - 1))) (C := RX1) (T := TX1) (N := 9) hx hb hts in_X1 hown hK hP 0 rfl rfl 4 (by decide) (hts _ q198) (fun _ h9 => h9) rfl dX1_undo_64 ?_
          refine go_ild hx hb hK hP 3 2 rfl rfl (go_n a - 1) (rfl) (by omega) (by decide) dX1_undo_67 ?_
          refine go_ist hx hb hK hP hD hS 5 4 rfl rfl 0 (rfl) (by omega) (by decide) dX1_undo_68 (fun cp_68 H locs ecp_68 hP hD hS => ?_)
          have hP : va_P D go_cl (go_M b cs xbd hi hf hs (nI (go_n a - 1)) cp_68 rc dd kp) H := hP
          have hD : va_D A (go_M b cs xbd hi hf hs (nI (go_n a - 1)) cp_68 rc dd kp) := hD
          refine lv_aload_n hx hb dX1_undo_69 rfl (lv_at hl 0 rfl) ?_
          refine va_get (D := D) (ci := 1) (v := .ref (b 5)) (C := RX1) (T := TX1) (N := 9) hx hb hts in_X1 hown hK hP 0 rfl rfl 5 (by decide) (hts _ q199) (fun _ h9 => h9) rfl dX1_undo_70 ?_
          refine lv_iconst (v := nI 1) hx hb dX1_undo_73 (by decide) ?_
          refine lv_aload_n hx hb dX1_undo_74 rfl (lv_at hl 0 rfl) ?_
          refine va_get (D := D) (ci := 1) (v := .ref (b 4)) (C := RX1) (T := TX1) (N := 9) hx hb hts in_X1 hown hK hP 0 rfl rfl 3 (by decide) (hts _ q197) (fun _ h9 => h9) rfl dX1_undo_75 ?_
          refine lv_aload_n hx hb dX1_undo_78 rfl (lv_at hl 0 rfl) ?_
          refine va_get (D := D) (ci := 1) (v := .int (nI (go_n a - 1))) (C := RX1) (T := TX1) (N := 9) hx hb hts in_X1 hown hK hP 0 rfl rfl 4 (by decide) (hts _ q198) (fun _ h9 => h9) rfl dX1_undo_79 ?_
          refine go_ild hx hb hK hP 4 3 rfl rfl (go_n a - 1) (rfl) (by omega) (by decide) dX1_undo_82 ?_
          refine go_ist hx hb hK hP hD hS 5 4 rfl rfl 1 (rfl) (by omega) (by decide) dX1_undo_83 (fun cp_83 H locs ecp_83 hP hD hS => ?_)
          have hP : va_P D go_cl (go_M b cs xbd hi hf hs (nI (go_n a - 1)) cp_83 rc dd kp) H := hP
          have hD : va_D A (go_M b cs xbd hi hf hs (nI (go_n a - 1)) cp_83 rc dd kp) := hD
          refine lv_aload_n hx hb dX1_undo_84 rfl (lv_at hl 0 rfl) ?_
          refine va_get (D := D) (ci := 1) (v := .int (nI (go_n a - 1))) (C := RX1) (T := TX1) (N := 9) hx hb hts in_X1 hown hK hP 0 rfl rfl 4 (by decide) (hts _ q198) (fun _ h9 => h9) rfl dX1_undo_85 ?_
          refine go_mri X hK hS ((xbd, nI (go_n a - 1), cp_83)) hP hD dX1_undo_88 ?_
          refine ⟨?_, go_MI_undo hM hn0 (fun j hj => hz j (by omega)) (by rw [ecp_83, pk_un (by decide), ecp_68, pk_us]) (by rw [ecp_83, pk_us])⟩
          unfold go_aUndo
          rw [go_ite_f hn0]
        · have c25 : ¬ 49 ≤ k := fun h => c25 ((nI_leI (a := 49) (b := k) (by omega) (by omega)).mpr h)
          refine lv_aload_n hx hb dX1_undo_28 rfl (lv_at hl 0 rfl) ?_
          refine va_get (D := D) (ci := 1) (v := .ref (b 1)) (C := RX1) (T := TX1) (N := 9) hx hb hts in_X1 hown hK hP 0 rfl rfl 0 (by decide) (hts _ q194) (fun _ h9 => h9) rfl dX1_undo_29 ?_
          refine lv_iload_n hx hb dX1_undo_32 rfl (lv_at hl 1 rfl) ?_
          refine lv_aload_n hx hb dX1_undo_33 rfl (lv_at hl 0 rfl) ?_
          refine va_get (D := D) (ci := 1) (v := .ref (b 2)) (C := RX1) (T := TX1) (N := 9) hx hb hts in_X1 hown hK hP 0 rfl rfl 1 (by decide) (hts _ q195) (fun _ h9 => h9) rfl dX1_undo_34 ?_
          refine lv_bipush (v := nI 49) hx hb dX1_undo_37 (by decide) ?_
          refine lv_aload_n hx hb dX1_undo_39 rfl (lv_at hl 0 rfl) ?_
          refine va_get (D := D) (ci := 1) (v := .int (nI (go_n a - 1))) (C := RX1) (T := TX1) (N := 9) hx hb hts in_X1 hown hK hP 0 rfl rfl 4 (by decide) (hts _ q198) (fun _ h9 => h9) rfl dX1_undo_40 ?_
          refine lv_imul hx hb dX1_undo_43 ?_
          refine lv_topi (fun v43 e43 => ?_)
          obtain rfl : v43 = nI (49 * (go_n a - 1)) := e43.trans (pk_mul 49 _)
          refine lv_iload_n hx hb dX1_undo_44 rfl (lv_at hl 1 rfl) ?_
          refine lv_iadd hx hb dX1_undo_45 ?_
          refine lv_topi (fun v45 e45 => ?_)
          obtain rfl : v45 = nI (49 * (go_n a - 1) + k) := e45.trans (nI_add _ _)
          refine go_ild hx hb hK hP 2 1 rfl rfl (49 * (go_n a - 1) + k) (rfl) (by omega) (by decide) dX1_undo_46 ?_
          refine go_ist hx hb hK hP hD hS 1 0 rfl rfl k (rfl) (by omega) (by decide) dX1_undo_47 (fun bd_47 H locs ebd_47 hP hD hS => ?_)
          have hP : va_P D go_cl (go_M b cs bd_47 hi hf hs (nI (go_n a - 1)) cp rc dd kp) H := hP
          have hD : va_D A (go_M b cs bd_47 hi hf hs (nI (go_n a - 1)) cp rc dd kp) := hD
          refine lv_iinc (v := nI (k + 1)) (lv' := [(1, .int (nI (k + 1))), (0, .ref (b 0))]) hx hb dX1_undo_48 hl (k := 1) rfl (nI_add k 1) (by decide) rfl (fun ls hl => ?_)
          refine lv_goto (tgt := 22) hx hb dX1_undo_51 (by decide) ?_
          exact ih (k + 1) bd_47 (by omega) (by omega) (go_fill (g := fun j => hi (49 * (go_n a - 1) + j)) hz ebd_47 rfl) _ _ _ hP hD hS (lv_sub hl [1, 0] rfl)
    exact lp22 50 0 bd (by omega) (by omega) (fun j h => absurd h (Nat.not_lt_zero j)) _ _ _ hP hD hS (lv_sub hl [1, 0] rfl)
  · have hn0 : go_n a = 0 := (nI_eq (a := go_n a) (b := 0) (by omega) (by decide)).mp (hdn.symm.trans c4)
    refine lv_bipush (v := (-2)) hx hb dX1_undo_7 (by decide) ?_
    refine go_mri X hK hS ((bd, dn, cp)) hP hD dX1_undo_9 ?_
    unfold go_aUndo go_sUndo
    rw [go_ite_t hn0, go_ite_t hn0]
    exact ⟨rfl, hM⟩
set_option maxHeartbeats 4000000 in
set_option maxRecDepth 100000 in
theorem gX1_set  (pa : Int32) (qa : Int32) (hM : go_MI a bd hi hf hs dn cp) (hI : go_AI a) : ∀ sz : Nat, Met l yX1_set (ws_ yX1_set cX1_set 3 (some .int)) ({ frames := 1, cells := 0, slots := 0, locals := 21 } : Room) (go_mP D (go_M b cs bd hi hf hs dn cp rc dd kp) (go_Mt cs) sz [.ref (b 0), .int pa, .int qa]) (go_mQi (fun (r : Int32) (u : (Nat → Int32) × Int32 × (Nat → Int32)) => match u with | (bd', dn', cp') => r = go_aSet a pa qa ∧ go_MI (go_sSet a pa qa) bd' hi hf hs dn' cp') D (go_Mt cs) (fun u : (Nat → Int32) × Int32 × (Nat → Int32) => match u with | (bd', dn', cp') => go_M b cs bd' hi hf hs dn' cp' rc dd kp) (va_A (go_M b cs bd hi hf hs dn cp rc dd kp) sz)) 0 0 (va_A (go_M b cs bd hi hf hs dn cp rc dd kp) sz) := by
  refine go_mMet (Qf := fun A => go_mQi (fun (r : Int32) (u : (Nat → Int32) × Int32 × (Nat → Int32)) => match u with | (bd', dn', cp') => r = go_aSet a pa qa ∧ go_MI (go_sSet a pa qa) bd' hi hf hs dn' cp') D (go_Mt cs) (fun u : (Nat → Int32) × Int32 × (Nat → Int32) => match u with | (bd', dn', cp') => go_M b cs bd' hi hf hs dn' cp' rc dd kp) A) (by decide) (Nat.le_of_ble_eq_true rfl) ?_
  intro p e s m below meth c ls A X hK hP hD hA hS hl
  have hl : lv_has ls 3 [(0, .ref (b 0)), (1, .int pa), (2, .int qa)] := hl
  obtain ⟨hx, hb, hml, hr, hlocks, hown, hts⟩ := id X
  have hP : va_P D go_cl (go_M b cs bd hi hf hs dn cp rc dd kp) s.heap := hP
  refine lv_iload_n hx hb dX1_set_0 rfl (lv_at hl 1 rfl) ?_
  refine lv_if_lt (tgt := 17) hx hb dX1_set_1 (by decide) (fun c1 => ?_) (fun c1 => ?_)
  · refine lv_iconst (v := (-1)) hx hb dX1_set_17 (by decide) ?_
    refine go_mri X hK hS ((bd, dn, cp)) hP hD dX1_set_18 ?_
    have hh := go_set_bad (a := a) (p := pa) (q := qa) (fun h => go_ok3_n c1 h.1)
    rw [hh.1, hh.2]
    exact ⟨rfl, hM⟩
  · refine lv_iload_n hx hb dX1_set_4 rfl (lv_at hl 1 rfl) ?_
    refine lv_iconst (v := nI 2) hx hb dX1_set_5 (by decide) ?_
    refine lv_icmp_gt (tgt := 17) hx hb dX1_set_6 (by decide) (fun c6 => ?_) (fun c6 => ?_)
    · refine lv_iconst (v := (-1)) hx hb dX1_set_17 (by decide) ?_
      refine go_mri X hK hS ((bd, dn, cp)) hP hD dX1_set_18 ?_
      have hh := go_set_bad (a := a) (p := pa) (q := qa) (fun h => go_ok3_n2 c6 h.1)
      rw [hh.1, hh.2]
      exact ⟨rfl, hM⟩
    · refine lv_aload_n hx hb dX1_set_9 rfl (lv_at hl 0 rfl) ?_
      refine lv_iload_n hx hb dX1_set_10 rfl (lv_at hl 2 rfl) ?_
      refine go_pcI (As := [.int qa]) (rest := []) X (gX1_isPoint qa) (cwV 1 hts (lw_V q231 q233 qs13 q27 q234) rfl rfl rfl (by decide +kernel) ⟨Nat.le_of_ble_eq_true rfl, Nat.le_of_ble_eq_true rfl⟩) hK hP (va_recv hK hP (ci := 1) (q0 := 0) rfl rfl) rfl rfl hl.1 (Nat.le_of_ble_eq_true rfl) dX1_set_11 ⟨Nat.zero_le _, Nat.zero_le _⟩ hS (fun r11 H1 locs p11 hk hS => ?_)
      have hP := hk _ hP
      clear hk
      generalize H1 = H at hP hS ⊢
      refine lv_if_ne (tgt := 19) hx hb dX1_set_14 (by decide) (fun c14 => ?_) (fun c14 => ?_)
      · obtain ⟨P, hP3, rfl⟩ := go_ok3_y c1 c6
        obtain ⟨K, hK9, rfl⟩ := (go_bo p11).2 c14
        refine lv_aload_n hx hb dX1_set_19 rfl (lv_at hl 0 rfl) ?_
        refine va_get (D := D) (ci := 1) (v := .ref (b 1)) (C := RX1) (T := TX1) (N := 9) hx hb hts in_X1 hown hK hP 0 rfl rfl 0 (by decide) (hts _ q194) (fun _ h9 => h9) rfl dX1_set_20 ?_
        refine lv_iload_n hx hb dX1_set_23 rfl (lv_at hl 2 rfl) ?_
        refine go_ild hx hb hK hP 1 0 rfl rfl K (rfl) (by omega) (by decide) dX1_set_24 ?_
        refine lv_iconst (v := nI 2) hx hb dX1_set_25 (by decide) ?_
        refine lv_icmp_ne (tgt := 33) hx hb dX1_set_26 (by decide) (fun c26 => ?_) (fun c26 => ?_)
        · have hB9 : ¬ go_B a K = 2 := fun e => c26 ((go_ba_eq hM.1 hI.1 hK9 (by decide)).mpr e)
          refine lv_iconst (v := nI 0) hx hb dX1_set_33 (by decide) ?_
          refine lv_iload_n hx hb dX1_set_34 rfl (lv_at hl 1 rfl) ?_
          refine lv_iconst (v := nI 2) hx hb dX1_set_35 (by decide) ?_
          refine lv_icmp_ge (tgt := 43) hx hb dX1_set_36 (by decide) (fun c36 => ?_) (fun c36 => ?_)
          · have c36 : 2 ≤ P := (nI_leI (a := 2) (b := P) (by omega) (by omega)).mp c36
            refine lv_iconst (v := nI 0) hx hb dX1_set_43 (by decide) ?_
            refine lv_icmp_eq (tgt := 50) hx hb dX1_set_44 (by decide) (fun c44 => ?_) (fun c44 => ?_)
            · have c44 : 0 = 0 := (nI_eq (a := 0) (b := 0) (by omega) (by omega)).mp c44
              refine lv_aload_n hx hb dX1_set_50 rfl (lv_at hl 0 rfl) ?_
              refine va_get (D := D) (ci := 1) (v := .ref (b 1)) (C := RX1) (T := TX1) (N := 9) hx hb hts in_X1 hown hK hP 0 rfl rfl 0 (by decide) (hts _ q194) (fun _ h9 => h9) rfl dX1_set_51 ?_
              refine lv_iload_n hx hb dX1_set_54 rfl (lv_at hl 2 rfl) ?_
              refine lv_iload_n hx hb dX1_set_55 rfl (lv_at hl 1 rfl) ?_
              refine go_ist hx hb hK hP hD hS 1 0 rfl rfl K (rfl) (by omega) (by decide) dX1_set_56 (fun bd_56 H locs ebd_56 hP hD hS => ?_)
              have hP : va_P D go_cl (go_M b cs bd_56 hi hf hs dn cp rc dd kp) H := hP
              have hD : va_D A (go_M b cs bd_56 hi hf hs dn cp rc dd kp) := hD
              refine lv_aload_n hx hb dX1_set_57 rfl (lv_at hl 0 rfl) ?_
              refine lv_iconst (v := nI 0) hx hb dX1_set_58 (by decide) ?_
              refine va_put (D := D) (ci := 1) (v := .int (nI 0)) (ty := .int) (C := RX1) (T := TX1) (N := 9) hx hb hts in_X1 tyX1 tyX1_ok nmX1 hown hK hP hD hS 0 rfl rfl 4 (by decide) (hts _ q198) (fun _ h9 => h9) rfl (by decide +kernel) rfl rfl (Nat.le_of_ble_eq_true rfl) dX1_set_59 (fun H locs hP hD hS => ?_)
              have hP : va_P D go_cl (go_M b cs bd_56 hi hf hs (nI 0) cp rc dd kp) H := hP
              have hD : va_D A (go_M b cs bd_56 hi hf hs (nI 0) cp rc dd kp) := hD
              refine lv_aload_n hx hb dX1_set_62 rfl (lv_at hl 0 rfl) ?_
              refine va_get (D := D) (ci := 1) (v := .ref (b 5)) (C := RX1) (T := TX1) (N := 9) hx hb hts in_X1 hown hK hP 0 rfl rfl 5 (by decide) (hts _ q199) (fun _ h9 => h9) rfl dX1_set_63 ?_
              refine lv_iconst (v := nI 0) hx hb dX1_set_66 (by decide) ?_
              refine lv_iconst (v := nI 0) hx hb dX1_set_67 (by decide) ?_
              refine go_ist hx hb hK hP hD hS 5 4 rfl rfl 0 (rfl) (by omega) (by decide) dX1_set_68 (fun cp_68 H locs ecp_68 hP hD hS => ?_)
              have hP : va_P D go_cl (go_M b cs bd_56 hi hf hs (nI 0) cp_68 rc dd kp) H := hP
              have hD : va_D A (go_M b cs bd_56 hi hf hs (nI 0) cp_68 rc dd kp) := hD
              refine lv_aload_n hx hb dX1_set_69 rfl (lv_at hl 0 rfl) ?_
              refine va_get (D := D) (ci := 1) (v := .ref (b 5)) (C := RX1) (T := TX1) (N := 9) hx hb hts in_X1 hown hK hP 0 rfl rfl 5 (by decide) (hts _ q199) (fun _ h9 => h9) rfl dX1_set_70 ?_
              refine lv_iconst (v := nI 1) hx hb dX1_set_73 (by decide) ?_
              refine lv_iconst (v := nI 0) hx hb dX1_set_74 (by decide) ?_
              refine go_ist hx hb hK hP hD hS 5 4 rfl rfl 1 (rfl) (by omega) (by decide) dX1_set_75 (fun cp_75 H locs ecp_75 hP hD hS => ?_)
              have hP : va_P D go_cl (go_M b cs bd_56 hi hf hs (nI 0) cp_75 rc dd kp) H := hP
              have hD : va_D A (go_M b cs bd_56 hi hf hs (nI 0) cp_75 rc dd kp) := hD
              refine lv_iconst (v := nI 0) hx hb dX1_set_76 (by decide) ?_
              refine go_mri X hK hS ((bd_56, nI 0, cp_75)) hP hD dX1_set_77 ?_
              have hif : go_B a K = 2 ↔ P < 2 := by omega
              exact ⟨((go_set_ok (a := a) hP3 hK9).2 hif).1.symm, go_MI_set hM hP3 hK9 hif ebd_56 (by rw [ecp_75, pk_un (by decide), ecp_68, pk_us]) (by rw [ecp_75, pk_us])⟩
            · have c44 : ¬ 0 = 0 := fun h => c44 ((nI_eq (a := 0) (b := 0) (by omega) (by omega)).mpr h)
              exact absurd rfl c44
          · have c36 : ¬ 2 ≤ P := fun h => c36 ((nI_leI (a := 2) (b := P) (by omega) (by omega)).mpr h)
            refine lv_iconst (v := nI 1) hx hb dX1_set_39 (by decide) ?_
            refine lv_goto (tgt := 44) hx hb dX1_set_40 (by decide) ?_
            refine lv_icmp_eq (tgt := 50) hx hb dX1_set_44 (by decide) (fun c44 => ?_) (fun c44 => ?_)
            · have c44 : 0 = 1 := (nI_eq (a := 0) (b := 1) (by omega) (by omega)).mp c44
              exact absurd c44 (by decide)
            · have c44 : ¬ 0 = 1 := fun h => c44 ((nI_eq (a := 0) (b := 1) (by omega) (by omega)).mpr h)
              refine lv_bipush (v := (-2)) hx hb dX1_set_47 (by decide) ?_
              refine go_mri X hK hS ((bd, dn, cp)) hP hD dX1_set_49 ?_
              have hh := (go_set_ok (a := a) hP3 hK9).1 (fun h => by omega)
              rw [hh.1, hh.2]
              exact ⟨rfl, hM⟩
        · have hB9 : go_B a K = 2 := (go_ba_eq hM.1 hI.1 hK9 (by decide)).mp c26
          refine lv_iconst (v := nI 1) hx hb dX1_set_29 (by decide) ?_
          refine lv_goto (tgt := 34) hx hb dX1_set_30 (by decide) ?_
          refine lv_iload_n hx hb dX1_set_34 rfl (lv_at hl 1 rfl) ?_
          refine lv_iconst (v := nI 2) hx hb dX1_set_35 (by decide) ?_
          refine lv_icmp_ge (tgt := 43) hx hb dX1_set_36 (by decide) (fun c36 => ?_) (fun c36 => ?_)
          · have c36 : 2 ≤ P := (nI_leI (a := 2) (b := P) (by omega) (by omega)).mp c36
            refine lv_iconst (v := nI 0) hx hb dX1_set_43 (by decide) ?_
            refine lv_icmp_eq (tgt := 50) hx hb dX1_set_44 (by decide) (fun c44 => ?_) (fun c44 => ?_)
            · have c44 : 1 = 0 := (nI_eq (a := 1) (b := 0) (by omega) (by omega)).mp c44
              exact absurd c44 (by decide)
            · have c44 : ¬ 1 = 0 := fun h => c44 ((nI_eq (a := 1) (b := 0) (by omega) (by omega)).mpr h)
              refine lv_bipush (v := (-2)) hx hb dX1_set_47 (by decide) ?_
              refine go_mri X hK hS ((bd, dn, cp)) hP hD dX1_set_49 ?_
              have hh := (go_set_ok (a := a) hP3 hK9).1 (fun h => by omega)
              rw [hh.1, hh.2]
              exact ⟨rfl, hM⟩
          · have c36 : ¬ 2 ≤ P := fun h => c36 ((nI_leI (a := 2) (b := P) (by omega) (by omega)).mpr h)
            refine lv_iconst (v := nI 1) hx hb dX1_set_39 (by decide) ?_
            refine lv_goto (tgt := 44) hx hb dX1_set_40 (by decide) ?_
            refine lv_icmp_eq (tgt := 50) hx hb dX1_set_44 (by decide) (fun c44 => ?_) (fun c44 => ?_)
            · have c44 : 1 = 1 := (nI_eq (a := 1) (b := 1) (by omega) (by omega)).mp c44
              refine lv_aload_n hx hb dX1_set_50 rfl (lv_at hl 0 rfl) ?_
              refine va_get (D := D) (ci := 1) (v := .ref (b 1)) (C := RX1) (T := TX1) (N := 9) hx hb hts in_X1 hown hK hP 0 rfl rfl 0 (by decide) (hts _ q194) (fun _ h9 => h9) rfl dX1_set_51 ?_
              refine lv_iload_n hx hb dX1_set_54 rfl (lv_at hl 2 rfl) ?_
              refine lv_iload_n hx hb dX1_set_55 rfl (lv_at hl 1 rfl) ?_
              refine go_ist hx hb hK hP hD hS 1 0 rfl rfl K (rfl) (by omega) (by decide) dX1_set_56 (fun bd_56 H locs ebd_56 hP hD hS => ?_)
              have hP : va_P D go_cl (go_M b cs bd_56 hi hf hs dn cp rc dd kp) H := hP
              have hD : va_D A (go_M b cs bd_56 hi hf hs dn cp rc dd kp) := hD
              refine lv_aload_n hx hb dX1_set_57 rfl (lv_at hl 0 rfl) ?_
              refine lv_iconst (v := nI 0) hx hb dX1_set_58 (by decide) ?_
              refine va_put (D := D) (ci := 1) (v := .int (nI 0)) (ty := .int) (C := RX1) (T := TX1) (N := 9) hx hb hts in_X1 tyX1 tyX1_ok nmX1 hown hK hP hD hS 0 rfl rfl 4 (by decide) (hts _ q198) (fun _ h9 => h9) rfl (by decide +kernel) rfl rfl (Nat.le_of_ble_eq_true rfl) dX1_set_59 (fun H locs hP hD hS => ?_)
              have hP : va_P D go_cl (go_M b cs bd_56 hi hf hs (nI 0) cp rc dd kp) H := hP
              have hD : va_D A (go_M b cs bd_56 hi hf hs (nI 0) cp rc dd kp) := hD
              refine lv_aload_n hx hb dX1_set_62 rfl (lv_at hl 0 rfl) ?_
              refine va_get (D := D) (ci := 1) (v := .ref (b 5)) (C := RX1) (T := TX1) (N := 9) hx hb hts in_X1 hown hK hP 0 rfl rfl 5 (by decide) (hts _ q199) (fun _ h9 => h9) rfl dX1_set_63 ?_
              refine lv_iconst (v := nI 0) hx hb dX1_set_66 (by decide) ?_
              refine lv_iconst (v := nI 0) hx hb dX1_set_67 (by decide) ?_
              refine go_ist hx hb hK hP hD hS 5 4 rfl rfl 0 (rfl) (by omega) (by decide) dX1_set_68 (fun cp_68 H locs ecp_68 hP hD hS => ?_)
              have hP : va_P D go_cl (go_M b cs bd_56 hi hf hs (nI 0) cp_68 rc dd kp) H := hP
              have hD : va_D A (go_M b cs bd_56 hi hf hs (nI 0) cp_68 rc dd kp) := hD
              refine lv_aload_n hx hb dX1_set_69 rfl (lv_at hl 0 rfl) ?_
              refine va_get (D := D) (ci := 1) (v := .ref (b 5)) (C := RX1) (T := TX1) (N := 9) hx hb hts in_X1 hown hK hP 0 rfl rfl 5 (by decide) (hts _ q199) (fun _ h9 => h9) rfl dX1_set_70 ?_
              refine lv_iconst (v := nI 1) hx hb dX1_set_73 (by decide) ?_
              refine lv_iconst (v := nI 0) hx hb dX1_set_74 (by decide) ?_
              refine go_ist hx hb hK hP hD hS 5 4 rfl rfl 1 (rfl) (by omega) (by decide) dX1_set_75 (fun cp_75 H locs ecp_75 hP hD hS => ?_)
              have hP : va_P D go_cl (go_M b cs bd_56 hi hf hs (nI 0) cp_75 rc dd kp) H := hP
              have hD : va_D A (go_M b cs bd_56 hi hf hs (nI 0) cp_75 rc dd kp) := hD
              refine lv_iconst (v := nI 0) hx hb dX1_set_76 (by decide) ?_
              refine go_mri X hK hS ((bd_56, nI 0, cp_75)) hP hD dX1_set_77 ?_
              have hif : go_B a K = 2 ↔ P < 2 := by omega
              exact ⟨((go_set_ok (a := a) hP3 hK9).2 hif).1.symm, go_MI_set hM hP3 hK9 hif ebd_56 (by rw [ecp_75, pk_un (by decide), ecp_68, pk_us]) (by rw [ecp_75, pk_us])⟩
            · have c44 : ¬ 1 = 1 := fun h => c44 ((nI_eq (a := 1) (b := 1) (by omega) (by omega)).mpr h)
              exact absurd rfl c44
      · refine lv_iconst (v := (-1)) hx hb dX1_set_17 (by decide) ?_
        refine go_mri X hK hS ((bd, dn, cp)) hP hD dX1_set_18 ?_
        have hh := go_set_bad (a := a) (p := pa) (q := qa) (fun h => (go_bo p11).1 c14 h.2)
        rw [hh.1, hh.2]
        exact ⟨rfl, hM⟩
set_option maxHeartbeats 4000000 in
set_option maxRecDepth 100000 in
theorem gX1_at  (qa : Int32) (hM : go_MI a bd hi hf hs dn cp) (hI : go_AI a) : Met l yX1_at (ws_ yX1_at cX1_at 2 (some .int)) ({ frames := 1, cells := 0, slots := 0, locals := 21 } : Room) (go_pP D (go_M b cs bd hi hf hs dn cp rc dd kp) (go_Mt cs) [.ref (b 0), .int qa]) (go_pQi (fun r => r = go_aAt (go_B a) qa)) 0 0 (fun _ => False) := by
  refine go_pMet (by decide) (Nat.le_of_ble_eq_true rfl) ?_
  intro p e s m below meth c ls X hK hP hS hl
  have hl : lv_has ls 2 [(0, .ref (b 0)), (1, .int qa)] := hl
  obtain ⟨hx, hb, hml, hr, hlocks, hown, hts⟩ := id X
  have hP : va_P D go_cl (go_M b cs bd hi hf hs dn cp rc dd kp) s.heap := hP
  refine lv_aload_n hx hb dX1_at_0 rfl (lv_at hl 0 rfl) ?_
  refine lv_iload_n hx hb dX1_at_1 rfl (lv_at hl 1 rfl) ?_
  refine go_pcI (As := [.int qa]) (rest := []) X (gX1_isPoint qa) (cwV 1 hts (lw_V q231 q233 qs13 q27 q234) rfl rfl rfl (by decide +kernel) ⟨Nat.le_of_ble_eq_true rfl, Nat.le_of_ble_eq_true rfl⟩) hK hP (va_recv hK hP (ci := 1) (q0 := 0) rfl rfl) rfl rfl hl.1 (Nat.le_of_ble_eq_true rfl) dX1_at_2 ⟨Nat.zero_le _, Nat.zero_le _⟩ hS (fun r2 H1 locs p2 hk hS => ?_)
  have hP := hk _ hP
  clear hk
  generalize H1 = H at hP hS ⊢
  refine lv_if_eq (tgt := 17) hx hb dX1_at_5 (by decide) (fun c5 => ?_) (fun c5 => ?_)
  · have hq := (go_bo p2).1 c5
    refine lv_iconst (v := (-1)) hx hb dX1_at_17 (by decide) ?_
    refine go_pri X hS dX1_at_18 ?_
    exact (go_onq_n hq).symm
  · obtain ⟨K, hK9, rfl⟩ := (go_bo p2).2 c5
    refine lv_aload_n hx hb dX1_at_8 rfl (lv_at hl 0 rfl) ?_
    refine va_get (D := D) (ci := 1) (v := .ref (b 1)) (C := RX1) (T := TX1) (N := 9) hx hb hts in_X1 hown hK hP 0 rfl rfl 0 (by decide) (hts _ q194) (fun _ h9 => h9) rfl dX1_at_9 ?_
    refine lv_iload_n hx hb dX1_at_12 rfl (lv_at hl 1 rfl) ?_
    refine go_ild hx hb hK hP 1 0 rfl rfl K (rfl) (by omega) (by decide) dX1_at_13 ?_
    refine lv_goto (tgt := 18) hx hb dX1_at_14 (by decide) ?_
    refine go_pri X hS dX1_at_18 ?_
    rw [go_aAt_y hK9]
    exact hM.1 K hK9
set_option maxHeartbeats 4000000 in
set_option maxRecDepth 100000 in
theorem gX1_captured  (pa : Int32) (hM : go_MI a bd hi hf hs dn cp) (hI : go_AI a) : Met l yX1_captured (ws_ yX1_captured cX1_captured 2 (some .int)) ({ frames := 1, cells := 0, slots := 0, locals := 21 } : Room) (go_pP D (go_M b cs bd hi hf hs dn cp rc dd kp) (go_Mt cs) [.ref (b 0), .int pa]) (go_pQi (fun r => r = go_aCap a pa)) 0 0 (fun _ => False) := by
  refine go_pMet (by decide) (Nat.le_of_ble_eq_true rfl) ?_
  intro p e s m below meth c ls X hK hP hS hl
  have hl : lv_has ls 2 [(0, .ref (b 0)), (1, .int pa)] := hl
  obtain ⟨hx, hb, hml, hr, hlocks, hown, hts⟩ := id X
  have hP : va_P D go_cl (go_M b cs bd hi hf hs dn cp rc dd kp) s.heap := hP
  refine lv_aload_n hx hb dX1_captured_0 rfl (lv_at hl 0 rfl) ?_
  refine lv_iload_n hx hb dX1_captured_1 rfl (lv_at hl 1 rfl) ?_
  refine go_pcI (As := [.int pa]) (rest := []) X (gX1_isPlayer pa) (cwV 1 hts (lw_V q227 q229 qs12 q27 q230) rfl rfl rfl (by decide +kernel) ⟨Nat.le_of_ble_eq_true rfl, Nat.le_of_ble_eq_true rfl⟩) hK hP (va_recv hK hP (ci := 1) (q0 := 0) rfl rfl) rfl rfl hl.1 (Nat.le_of_ble_eq_true rfl) dX1_captured_2 ⟨Nat.zero_le _, Nat.zero_le _⟩ hS (fun r2 H1 locs p2 hk hS => ?_)
  have hP := hk _ hP
  clear hk
  generalize H1 = H at hP hS ⊢
  refine lv_if_eq (tgt := 17) hx hb dX1_captured_5 (by decide) (fun c5 => ?_) (fun c5 => ?_)
  · have hq := (go_bo p2).1 c5
    refine lv_iconst (v := (-1)) hx hb dX1_captured_17 (by decide) ?_
    refine go_pri X hS dX1_captured_18 ?_
    exact (go_onp_n hq).symm
  · obtain ⟨P, hP2, rfl⟩ := (go_bo p2).2 c5
    refine lv_aload_n hx hb dX1_captured_8 rfl (lv_at hl 0 rfl) ?_
    refine va_get (D := D) (ci := 1) (v := .ref (b 5)) (C := RX1) (T := TX1) (N := 9) hx hb hts in_X1 hown hK hP 0 rfl rfl 5 (by decide) (hts _ q199) (fun _ h9 => h9) rfl dX1_captured_9 ?_
    refine lv_iload_n hx hb dX1_captured_12 rfl (lv_at hl 1 rfl) ?_
    refine go_ild hx hb hK hP 5 4 rfl rfl P (rfl) (by omega) (by decide) dX1_captured_13 ?_
    refine lv_goto (tgt := 18) hx hb dX1_captured_14 (by decide) ?_
    refine go_pri X hS dX1_captured_18 ?_
    rw [go_aCap_y hP2]
    rcases (show P = 0 ∨ P = 1 by omega) with rfl | rfl
    · exact hM.2.2.2.2.2.1
    · exact hM.2.2.2.2.2.2
set_option maxHeartbeats 4000000 in
set_option maxRecDepth 100000 in
theorem gX1_done    : Met l yX1_done (ws_ yX1_done cX1_done 1 (some .int)) ({ frames := 0, cells := 0, slots := 0, locals := 0 } : Room) (go_pP D (go_M b cs bd hi hf hs dn cp rc dd kp) (go_Mt cs) [.ref (b 0)]) (go_pQi (fun r => r = dn)) 0 0 (fun _ => False) := by
  refine go_pMet (by decide) (Nat.le_of_ble_eq_true rfl) ?_
  intro p e s m below meth c ls X hK hP hS hl
  have hl : lv_has ls 1 [(0, .ref (b 0))] := hl
  obtain ⟨hx, hb, hml, hr, hlocks, hown, hts⟩ := id X
  have hP : va_P D go_cl (go_M b cs bd hi hf hs dn cp rc dd kp) s.heap := hP
  refine lv_aload_n hx hb dX1_done_0 rfl (lv_at hl 0 rfl) ?_
  refine va_get (D := D) (ci := 1) (v := .int dn) (C := RX1) (T := TX1) (N := 9) hx hb hts in_X1 hown hK hP 0 rfl rfl 4 (by decide) (hts _ q198) (fun _ h9 => h9) rfl dX1_done_1 ?_
  refine go_pri X hS dX1_done_4 ?_
  rfl
set_option maxHeartbeats 4000000 in
set_option maxRecDepth 100000 in
theorem gX1_groupSize  (qa : Int32) (hM : go_MI a bd hi hf hs dn cp) (hI : go_AI a) : ∀ sz : Nat, Met l yX1_groupSize (ws_ yX1_groupSize cX1_groupSize 2 (some .int)) ({ frames := 3, cells := 0, slots := 0, locals := 71 } : Room) (go_mP D (go_M b cs bd hi hf hs dn cp rc dd kp) (go_Mt cs) sz [.ref (b 0), .int qa]) (go_mQi (fun (r : Int32) (rc' : (Nat → Int32)) => r = go_aGs (go_B a) qa) D (go_Mt cs) (fun rc' : (Nat → Int32) => go_M b cs bd hi hf hs dn cp rc' dd kp) (va_A (go_M b cs bd hi hf hs dn cp rc dd kp) sz)) 0 0 (va_A (go_M b cs bd hi hf hs dn cp rc dd kp) sz) := by
  refine go_mMet (Qf := fun A => go_mQi (fun (r : Int32) (rc' : (Nat → Int32)) => r = go_aGs (go_B a) qa) D (go_Mt cs) (fun rc' : (Nat → Int32) => go_M b cs bd hi hf hs dn cp rc' dd kp) A) (by decide) (Nat.le_of_ble_eq_true rfl) ?_
  intro p e s m below meth c ls A X hK hP hD hA hS hl
  have hl : lv_has ls 2 [(0, .ref (b 0)), (1, .int qa)] := hl
  obtain ⟨hx, hb, hml, hr, hlocks, hown, hts⟩ := id X
  have hP : va_P D go_cl (go_M b cs bd hi hf hs dn cp rc dd kp) s.heap := hP
  refine lv_aload_n hx hb dX1_groupSize_0 rfl (lv_at hl 0 rfl) ?_
  refine lv_iload_n hx hb dX1_groupSize_1 rfl (lv_at hl 1 rfl) ?_
  refine go_pcI (As := [.int qa]) (rest := []) X (gX1_isPoint qa) (cwV 1 hts (lw_V q231 q233 qs13 q27 q234) rfl rfl rfl (by decide +kernel) ⟨Nat.le_of_ble_eq_true rfl, Nat.le_of_ble_eq_true rfl⟩) hK hP (va_recv hK hP (ci := 1) (q0 := 0) rfl rfl) rfl rfl hl.1 (Nat.le_of_ble_eq_true rfl) dX1_groupSize_2 ⟨Nat.zero_le _, Nat.zero_le _⟩ hS (fun r2 H1 locs p2 hk hS => ?_)
  have hP := hk _ hP
  clear hk
  generalize H1 = H at hP hS ⊢
  refine lv_if_ne (tgt := 10) hx hb dX1_groupSize_5 (by decide) (fun c5 => ?_) (fun c5 => ?_)
  · obtain ⟨K, hK9, rfl⟩ := (go_bo p2).2 c5
    refine lv_aload_n hx hb dX1_groupSize_10 rfl (lv_at hl 0 rfl) ?_
    refine va_get (D := D) (ci := 1) (v := .ref (b 1)) (C := RX1) (T := TX1) (N := 9) hx hb hts in_X1 hown hK hP 0 rfl rfl 0 (by decide) (hts _ q194) (fun _ h9 => h9) rfl dX1_groupSize_11 ?_
    refine lv_iload_n hx hb dX1_groupSize_14 rfl (lv_at hl 1 rfl) ?_
    refine go_ild hx hb hK hP 1 0 rfl rfl K (rfl) (by omega) (by decide) dX1_groupSize_15 ?_
    refine lv_iconst (v := nI 2) hx hb dX1_groupSize_16 (by decide) ?_
    refine lv_icmp_ne (tgt := 25) hx hb dX1_groupSize_17 (by decide) (fun c17 => ?_) (fun c17 => ?_)
    · have hB9 : ¬ go_B a K = 2 := fun e => c17 ((go_ba_eq hM.1 hI.1 hK9 (by decide)).mpr e)
      refine lv_aload_n hx hb dX1_groupSize_25 rfl (lv_at hl 0 rfl) ?_
      refine lv_iload_n hx hb dX1_groupSize_26 rfl (lv_at hl 1 rfl) ?_
      refine go_mcI (As := [.int (nI K)]) (rest := []) X (gX1_reachFrom (B := go_B a) K hK9 hM.1 hI.1) (cwV 1 hts (lw_V q243 q245 qs16 q27 q246) rfl rfl rfl (by decide +kernel) ⟨Nat.le_of_ble_eq_true rfl, Nat.le_of_ble_eq_true rfl⟩) hK hP hD hA (va_recv hK hP (ci := 1) (q0 := 0) rfl rfl) rfl rfl hl.1 (Nat.le_of_ble_eq_true rfl) dX1_groupSize_27 ⟨Nat.zero_le _, Nat.zero_le _⟩ hS (fun r27 u27 H1 locs p27 hP hD hS hk => ?_)
      clear hk
      obtain ⟨rc_27, rfl⟩ : ∃ z, z = u27 := ⟨_, rfl⟩
      generalize H1 = H at hP hS ⊢
      have hP : va_P D go_cl (go_M b cs bd hi hf hs dn cp rc_27 dd kp) H := hP
      have hD : va_D A (go_M b cs bd hi hf hs dn cp rc_27 dd kp) := hD
      try dsimp only at p27
      refine go_mri X hK hS (rc_27) hP hD dX1_groupSize_30 ?_
      rw [go_aGs_n hK9 hB9]
      exact p27.1
    · have hB9 : go_B a K = 2 := (go_ba_eq hM.1 hI.1 hK9 (by decide)).mp c17
      refine lv_bipush (v := (-2)) hx hb dX1_groupSize_20 (by decide) ?_
      refine lv_goto (tgt := 30) hx hb dX1_groupSize_22 (by decide) ?_
      refine go_mri X hK hS (rc) hP hD dX1_groupSize_30 ?_
      rw [go_aGs_2 hK9 hB9]
  · have hq := (go_bo p2).1 c5
    refine lv_iconst (v := (-1)) hx hb dX1_groupSize_8 (by decide) ?_
    refine go_mri X hK hS (rc) hP hD dX1_groupSize_9 ?_
    exact (go_onq_n hq).symm
set_option maxHeartbeats 4000000 in
set_option maxRecDepth 100000 in
theorem gX1_liberties  (qa : Int32) (hM : go_MI a bd hi hf hs dn cp) (hI : go_AI a) : ∀ sz : Nat, Met l yX1_liberties (ws_ yX1_liberties cX1_liberties 2 (some .int)) ({ frames := 3, cells := 0, slots := 0, locals := 71 } : Room) (go_mP D (go_M b cs bd hi hf hs dn cp rc dd kp) (go_Mt cs) sz [.ref (b 0), .int qa]) (go_mQi (fun (r : Int32) (rc' : (Nat → Int32)) => r = go_aLib (go_B a) qa) D (go_Mt cs) (fun rc' : (Nat → Int32) => go_M b cs bd hi hf hs dn cp rc' dd kp) (va_A (go_M b cs bd hi hf hs dn cp rc dd kp) sz)) 0 0 (va_A (go_M b cs bd hi hf hs dn cp rc dd kp) sz) := by
  refine go_mMet (Qf := fun A => go_mQi (fun (r : Int32) (rc' : (Nat → Int32)) => r = go_aLib (go_B a) qa) D (go_Mt cs) (fun rc' : (Nat → Int32) => go_M b cs bd hi hf hs dn cp rc' dd kp) A) (by decide) (Nat.le_of_ble_eq_true rfl) ?_
  intro p e s m below meth c ls A X hK hP hD hA hS hl
  have hl : lv_has ls 2 [(0, .ref (b 0)), (1, .int qa)] := hl
  obtain ⟨hx, hb, hml, hr, hlocks, hown, hts⟩ := id X
  have hP : va_P D go_cl (go_M b cs bd hi hf hs dn cp rc dd kp) s.heap := hP
  refine lv_aload_n hx hb dX1_liberties_0 rfl (lv_at hl 0 rfl) ?_
  refine lv_iload_n hx hb dX1_liberties_1 rfl (lv_at hl 1 rfl) ?_
  refine go_pcI (As := [.int qa]) (rest := []) X (gX1_isPoint qa) (cwV 1 hts (lw_V q231 q233 qs13 q27 q234) rfl rfl rfl (by decide +kernel) ⟨Nat.le_of_ble_eq_true rfl, Nat.le_of_ble_eq_true rfl⟩) hK hP (va_recv hK hP (ci := 1) (q0 := 0) rfl rfl) rfl rfl hl.1 (Nat.le_of_ble_eq_true rfl) dX1_liberties_2 ⟨Nat.zero_le _, Nat.zero_le _⟩ hS (fun r2 H1 locs p2 hk hS => ?_)
  have hP := hk _ hP
  clear hk
  generalize H1 = H at hP hS ⊢
  refine lv_if_ne (tgt := 10) hx hb dX1_liberties_5 (by decide) (fun c5 => ?_) (fun c5 => ?_)
  · obtain ⟨K, hK9, rfl⟩ := (go_bo p2).2 c5
    refine lv_aload_n hx hb dX1_liberties_10 rfl (lv_at hl 0 rfl) ?_
    refine va_get (D := D) (ci := 1) (v := .ref (b 1)) (C := RX1) (T := TX1) (N := 9) hx hb hts in_X1 hown hK hP 0 rfl rfl 0 (by decide) (hts _ q194) (fun _ h9 => h9) rfl dX1_liberties_11 ?_
    refine lv_iload_n hx hb dX1_liberties_14 rfl (lv_at hl 1 rfl) ?_
    refine go_ild hx hb hK hP 1 0 rfl rfl K (rfl) (by omega) (by decide) dX1_liberties_15 ?_
    refine lv_iconst (v := nI 2) hx hb dX1_liberties_16 (by decide) ?_
    refine lv_icmp_ne (tgt := 23) hx hb dX1_liberties_17 (by decide) (fun c17 => ?_) (fun c17 => ?_)
    · have hB9 : ¬ go_B a K = 2 := fun e => c17 ((go_ba_eq hM.1 hI.1 hK9 (by decide)).mpr e)
      refine lv_aload_n hx hb dX1_liberties_23 rfl (lv_at hl 0 rfl) ?_
      refine lv_iload_n hx hb dX1_liberties_24 rfl (lv_at hl 1 rfl) ?_
      refine go_mcI (As := [.int (nI K)]) (rest := []) X (gX1_reachFrom (B := go_B a) K hK9 hM.1 hI.1) (cwV 1 hts (lw_V q243 q245 qs16 q27 q246) rfl rfl rfl (by decide +kernel) ⟨Nat.le_of_ble_eq_true rfl, Nat.le_of_ble_eq_true rfl⟩) hK hP hD hA (va_recv hK hP (ci := 1) (q0 := 0) rfl rfl) rfl rfl hl.1 (Nat.le_of_ble_eq_true rfl) dX1_liberties_25 ⟨Nat.zero_le _, Nat.zero_le _⟩ hS (fun r25 u25 H1 locs p25 hP hD hS hk => ?_)
      clear hk
      obtain ⟨rc_25, rfl⟩ : ∃ z, z = u25 := ⟨_, rfl⟩
      generalize H1 = H at hP hS ⊢
      have hP : va_P D go_cl (go_M b cs bd hi hf hs dn cp rc_25 dd kp) H := hP
      have hD : va_D A (go_M b cs bd hi hf hs dn cp rc_25 dd kp) := hD
      try dsimp only at p25
      refine lv_pop hx hb dX1_liberties_28 rfl ?_
      refine lv_aload_n hx hb dX1_liberties_29 rfl (lv_at hl 0 rfl) ?_
      refine go_pcI (As := []) (rest := []) X (gX1_countLiberties (B := go_B a) (Z := go_gp (go_B a) K) hM.1 hI.1 p25.2) (cwV 0 hts (lw_V q255 q257 qs19 q27 q258) rfl rfl rfl (by decide +kernel) ⟨Nat.le_of_ble_eq_true rfl, Nat.le_of_ble_eq_true rfl⟩) hK hP (va_recv hK hP (ci := 1) (q0 := 0) rfl rfl) rfl rfl hl.1 (Nat.le_of_ble_eq_true rfl) dX1_liberties_30 ⟨Nat.zero_le _, Nat.zero_le _⟩ hS (fun r30 H1 locs p30 hk hS => ?_)
      have hP := hk _ hP
      clear hk
      generalize H1 = H at hP hS ⊢
      refine go_mri X hK hS (rc_25) hP hD dX1_liberties_33 ?_
      rw [go_aLib_n hK9 hB9]
      exact p30
    · have hB9 : go_B a K = 2 := (go_ba_eq hM.1 hI.1 hK9 (by decide)).mp c17
      refine lv_bipush (v := (-2)) hx hb dX1_liberties_20 (by decide) ?_
      refine go_mri X hK hS (rc) hP hD dX1_liberties_22 ?_
      rw [go_aLib_2 hK9 hB9]
  · have hq := (go_bo p2).1 c5
    refine lv_iconst (v := (-1)) hx hb dX1_liberties_8 (by decide) ?_
    refine go_mri X hK hS (rc) hP hD dX1_liberties_9 ?_
    exact (go_onq_n hq).symm
set_option maxHeartbeats 4000000 in
set_option maxRecDepth 100000 in
theorem gX1_region  (qa : Int32) (hM : go_MI a bd hi hf hs dn cp) (hI : go_AI a) : ∀ sz : Nat, Met l yX1_region (ws_ yX1_region cX1_region 2 (some .int)) ({ frames := 3, cells := 0, slots := 0, locals := 71 } : Room) (go_mP D (go_M b cs bd hi hf hs dn cp rc dd kp) (go_Mt cs) sz [.ref (b 0), .int qa]) (go_mQi (fun (r : Int32) (rc' : (Nat → Int32)) => r = go_aReg (go_B a) qa) D (go_Mt cs) (fun rc' : (Nat → Int32) => go_M b cs bd hi hf hs dn cp rc' dd kp) (va_A (go_M b cs bd hi hf hs dn cp rc dd kp) sz)) 0 0 (va_A (go_M b cs bd hi hf hs dn cp rc dd kp) sz) := by
  refine go_mMet (Qf := fun A => go_mQi (fun (r : Int32) (rc' : (Nat → Int32)) => r = go_aReg (go_B a) qa) D (go_Mt cs) (fun rc' : (Nat → Int32) => go_M b cs bd hi hf hs dn cp rc' dd kp) A) (by decide) (Nat.le_of_ble_eq_true rfl) ?_
  intro p e s m below meth c ls A X hK hP hD hA hS hl
  have hl : lv_has ls 2 [(0, .ref (b 0)), (1, .int qa)] := hl
  obtain ⟨hx, hb, hml, hr, hlocks, hown, hts⟩ := id X
  have hP : va_P D go_cl (go_M b cs bd hi hf hs dn cp rc dd kp) s.heap := hP
  refine lv_aload_n hx hb dX1_region_0 rfl (lv_at hl 0 rfl) ?_
  refine lv_iload_n hx hb dX1_region_1 rfl (lv_at hl 1 rfl) ?_
  refine go_pcI (As := [.int qa]) (rest := []) X (gX1_isPoint qa) (cwV 1 hts (lw_V q231 q233 qs13 q27 q234) rfl rfl rfl (by decide +kernel) ⟨Nat.le_of_ble_eq_true rfl, Nat.le_of_ble_eq_true rfl⟩) hK hP (va_recv hK hP (ci := 1) (q0 := 0) rfl rfl) rfl rfl hl.1 (Nat.le_of_ble_eq_true rfl) dX1_region_2 ⟨Nat.zero_le _, Nat.zero_le _⟩ hS (fun r2 H1 locs p2 hk hS => ?_)
  have hP := hk _ hP
  clear hk
  generalize H1 = H at hP hS ⊢
  refine lv_if_ne (tgt := 10) hx hb dX1_region_5 (by decide) (fun c5 => ?_) (fun c5 => ?_)
  · obtain ⟨K, hK9, rfl⟩ := (go_bo p2).2 c5
    refine lv_aload_n hx hb dX1_region_10 rfl (lv_at hl 0 rfl) ?_
    refine va_get (D := D) (ci := 1) (v := .ref (b 1)) (C := RX1) (T := TX1) (N := 9) hx hb hts in_X1 hown hK hP 0 rfl rfl 0 (by decide) (hts _ q194) (fun _ h9 => h9) rfl dX1_region_11 ?_
    refine lv_iload_n hx hb dX1_region_14 rfl (lv_at hl 1 rfl) ?_
    refine go_ild hx hb hK hP 1 0 rfl rfl K (rfl) (by omega) (by decide) dX1_region_15 ?_
    refine lv_iconst (v := nI 2) hx hb dX1_region_16 (by decide) ?_
    refine lv_icmp_ne (tgt := 28) hx hb dX1_region_17 (by decide) (fun c17 => ?_) (fun c17 => ?_)
    · have hB9 : ¬ go_B a K = 2 := fun e => c17 ((go_ba_eq hM.1 hI.1 hK9 (by decide)).mpr e)
      refine lv_bipush (v := (-2)) hx hb dX1_region_28 (by decide) ?_
      refine go_mri X hK hS (rc) hP hD dX1_region_30 ?_
      rw [go_aReg_n hK9 hB9]
    · have hB9 : go_B a K = 2 := (go_ba_eq hM.1 hI.1 hK9 (by decide)).mp c17
      refine lv_aload_n hx hb dX1_region_20 rfl (lv_at hl 0 rfl) ?_
      refine lv_iload_n hx hb dX1_region_21 rfl (lv_at hl 1 rfl) ?_
      refine go_mcI (As := [.int (nI K)]) (rest := []) X (gX1_reachFrom (B := go_B a) K hK9 hM.1 hI.1) (cwV 1 hts (lw_V q243 q245 qs16 q27 q246) rfl rfl rfl (by decide +kernel) ⟨Nat.le_of_ble_eq_true rfl, Nat.le_of_ble_eq_true rfl⟩) hK hP hD hA (va_recv hK hP (ci := 1) (q0 := 0) rfl rfl) rfl rfl hl.1 (Nat.le_of_ble_eq_true rfl) dX1_region_22 ⟨Nat.zero_le _, Nat.zero_le _⟩ hS (fun r22 u22 H1 locs p22 hP hD hS hk => ?_)
      clear hk
      obtain ⟨rc_22, rfl⟩ : ∃ z, z = u22 := ⟨_, rfl⟩
      generalize H1 = H at hP hS ⊢
      have hP : va_P D go_cl (go_M b cs bd hi hf hs dn cp rc_22 dd kp) H := hP
      have hD : va_D A (go_M b cs bd hi hf hs dn cp rc_22 dd kp) := hD
      try dsimp only at p22
      refine lv_goto (tgt := 30) hx hb dX1_region_25 (by decide) ?_
      refine go_mri X hK hS (rc_22) hP hD dX1_region_30 ?_
      rw [go_aReg_2 hK9 hB9]
      exact p22.1
  · have hq := (go_bo p2).1 c5
    refine lv_iconst (v := (-1)) hx hb dX1_region_8 (by decide) ?_
    refine go_mri X hK hS (rc) hP hD dX1_region_9 ?_
    exact (go_onq_n hq).symm
set_option maxHeartbeats 4000000 in
set_option maxRecDepth 100000 in
theorem gX1_trial  (pa : Int32) (qa : Int32) (hM : go_MI a bd hi hf hs dn cp) (hI : go_AI a) : ∀ sz : Nat, Met l yX1_trial (ws_ yX1_trial cX1_trial 4 (some .int)) ({ frames := 5, cells := 0, slots := 0, locals := 118 } : Room) (go_mP D (go_M b cs bd hi hf hs dn cp rc dd kp) (go_Mt cs) sz [.ref (b 0), .int pa, .int qa]) (go_mQi (fun (r : Int32) (u : (Nat → Int32) × (Nat → Int32) × (Nat → Int32) × (Nat → Int32)) => match u with | (bd', rc', dd', kp') => r = go_att (go_B a) (go_n a) (go_HB a) pa qa ∧ go_MI a bd' hi hf hs dn cp) D (go_Mt cs) (fun u : (Nat → Int32) × (Nat → Int32) × (Nat → Int32) × (Nat → Int32) => match u with | (bd', rc', dd', kp') => go_M b cs bd' hi hf hs dn cp rc' dd' kp') (va_A (go_M b cs bd hi hf hs dn cp rc dd kp) sz)) 0 0 (va_A (go_M b cs bd hi hf hs dn cp rc dd kp) sz) := by
  refine go_mMet (Qf := fun A => go_mQi (fun (r : Int32) (u : (Nat → Int32) × (Nat → Int32) × (Nat → Int32) × (Nat → Int32)) => match u with | (bd', rc', dd', kp') => r = go_att (go_B a) (go_n a) (go_HB a) pa qa ∧ go_MI a bd' hi hf hs dn cp) D (go_Mt cs) (fun u : (Nat → Int32) × (Nat → Int32) × (Nat → Int32) × (Nat → Int32) => match u with | (bd', rc', dd', kp') => go_M b cs bd' hi hf hs dn cp rc' dd' kp') A) (by decide) (Nat.le_of_ble_eq_true rfl) ?_
  intro p e s m below meth c ls A X hK hP hD hA hS hl
  have hl : lv_has ls 4 [(0, .ref (b 0)), (1, .int pa), (2, .int qa)] := hl
  obtain ⟨hx, hb, hml, hr, hlocks, hown, hts⟩ := id X
  have hP : va_P D go_cl (go_M b cs bd hi hf hs dn cp rc dd kp) s.heap := hP
  refine lv_aload_n hx hb dX1_trial_0 rfl (lv_at hl 0 rfl) ?_
  refine lv_iload_n hx hb dX1_trial_1 rfl (lv_at hl 1 rfl) ?_
  refine go_pcI (As := [.int pa]) (rest := []) X (gX1_isPlayer pa) (cwV 1 hts (lw_V q227 q229 qs12 q27 q230) rfl rfl rfl (by decide +kernel) ⟨Nat.le_of_ble_eq_true rfl, Nat.le_of_ble_eq_true rfl⟩) hK hP (va_recv hK hP (ci := 1) (q0 := 0) rfl rfl) rfl rfl hl.1 (Nat.le_of_ble_eq_true rfl) dX1_trial_2 ⟨Nat.zero_le _, Nat.zero_le _⟩ hS (fun r2 H1 locs p2 hk hS => ?_)
  have hP := hk _ hP
  clear hk
  generalize H1 = H at hP hS ⊢
  refine lv_if_eq (tgt := 16) hx hb dX1_trial_5 (by decide) (fun c5 => ?_) (fun c5 => ?_)
  · refine lv_iconst (v := (-1)) hx hb dX1_trial_16 (by decide) ?_
    refine go_mri X hK hS ((bd, rc, dd, kp)) hP hD dX1_trial_17 ?_
    exact ⟨(go_att_bad (fun h => (go_bo p2).1 c5 h.1)).symm, hM⟩
  · refine lv_aload_n hx hb dX1_trial_8 rfl (lv_at hl 0 rfl) ?_
    refine lv_iload_n hx hb dX1_trial_9 rfl (lv_at hl 2 rfl) ?_
    refine go_pcI (As := [.int qa]) (rest := []) X (gX1_isPoint qa) (cwV 1 hts (lw_V q231 q233 qs13 q27 q234) rfl rfl rfl (by decide +kernel) ⟨Nat.le_of_ble_eq_true rfl, Nat.le_of_ble_eq_true rfl⟩) hK hP (va_recv hK hP (ci := 1) (q0 := 0) rfl rfl) rfl rfl hl.1 (Nat.le_of_ble_eq_true rfl) dX1_trial_10 ⟨Nat.zero_le _, Nat.zero_le _⟩ hS (fun r10 H1 locs p10 hk hS => ?_)
    have hP := hk _ hP
    clear hk
    generalize H1 = H at hP hS ⊢
    refine lv_if_ne (tgt := 18) hx hb dX1_trial_13 (by decide) (fun c13 => ?_) (fun c13 => ?_)
    · obtain ⟨P, hP2, rfl⟩ := (go_bo p2).2 c5
      obtain ⟨K, hK9, rfl⟩ := (go_bo p10).2 c13
      refine lv_aload_n hx hb dX1_trial_18 rfl (lv_at hl 0 rfl) ?_
      refine va_get (D := D) (ci := 1) (v := .ref (b 1)) (C := RX1) (T := TX1) (N := 9) hx hb hts in_X1 hown hK hP 0 rfl rfl 0 (by decide) (hts _ q194) (fun _ h9 => h9) rfl dX1_trial_19 ?_
      refine lv_iload_n hx hb dX1_trial_22 rfl (lv_at hl 2 rfl) ?_
      refine go_ild hx hb hK hP 1 0 rfl rfl K (rfl) (by omega) (by decide) dX1_trial_23 ?_
      refine lv_iconst (v := nI 2) hx hb dX1_trial_24 (by decide) ?_
      refine lv_icmp_eq (tgt := 31) hx hb dX1_trial_25 (by decide) (fun c25 => ?_) (fun c25 => ?_)
      · have hB9 : go_B a K = 2 := (go_ba_eq hM.1 hI.1 hK9 (by decide)).mp c25
        refine lv_aload_n hx hb dX1_trial_31 rfl (lv_at hl 0 rfl) ?_
        refine lv_iload_n hx hb dX1_trial_32 rfl (lv_at hl 1 rfl) ?_
        refine lv_iload_n hx hb dX1_trial_33 rfl (lv_at hl 2 rfl) ?_
        refine go_mcI (As := [.int (nI P), .int (nI K)]) (rest := []) X (gX1_tryMove P K hP2 hK9 hM hI) (cwV 2 hts (lw_V q235 q237 qs14 q27 q238) rfl rfl rfl (by decide +kernel) ⟨Nat.le_of_ble_eq_true rfl, Nat.le_of_ble_eq_true rfl⟩) hK hP hD hA (va_recv hK hP (ci := 1) (q0 := 0) rfl rfl) rfl rfl hl.1 (Nat.le_of_ble_eq_true rfl) dX1_trial_34 ⟨Nat.zero_le _, Nat.zero_le _⟩ hS (fun r34 u34 H1 locs p34 hP hD hS hk => ?_)
        clear hk
        obtain ⟨bd_34, rc_34, dd_34, kp_34⟩ := u34
        generalize H1 = H at hP hS ⊢
        have hP : va_P D go_cl (go_M b cs bd_34 hi hf hs dn cp rc_34 dd_34 kp_34) H := hP
        have hD : va_D A (go_M b cs bd_34 hi hf hs dn cp rc_34 dd_34 kp_34) := hD
        try dsimp only at p34
        refine lv_istore_n (lv' := [(3, .int r34), (0, .ref (b 0)), (1, .int (nI P)), (2, .int (nI K))]) hx hb dX1_trial_37 rfl hl (by decide) rfl (fun ls hl => ?_)
        refine lv_aload_n hx hb dX1_trial_38 rfl (lv_at hl 1 rfl) ?_
        refine go_mcV (As := []) (rest := []) X (gX1_putBack) (cwV 0 hts (lw_V q263 q265 qs21 q27 q266) rfl rfl rfl (by decide +kernel) ⟨Nat.le_of_ble_eq_true rfl, Nat.le_of_ble_eq_true rfl⟩) hK hP hD hA (va_recv hK hP (ci := 1) (q0 := 0) rfl rfl) rfl rfl hl.1 (Nat.le_of_ble_eq_true rfl) dX1_trial_39 ⟨Nat.zero_le _, Nat.zero_le _⟩ hS (fun u39 H1 locs p39 hP hD hS => ?_)
        obtain ⟨bd_39, rfl⟩ : ∃ z, z = u39 := ⟨_, rfl⟩
        generalize H1 = H at hP hS ⊢
        have hP : va_P D go_cl (go_M b cs bd_39 hi hf hs dn cp rc_34 dd_34 kp_34) H := hP
        have hD : va_D A (go_M b cs bd_39 hi hf hs dn cp rc_34 dd_34 kp_34) := hD
        try dsimp only at p39
        refine lv_iload_n hx hb dX1_trial_42 rfl (lv_at hl 0 rfl) ?_
        refine go_mri X hK hS ((bd_39, rc_34, dd_34, kp_34)) hP hD dX1_trial_43 ?_
        exact ⟨p34.1.trans (go_att_tv hP2 hK9 hB9).symm, go_MI_bd hM (fun j hj => (p39 j hj).trans (p34.2.2 j hj))⟩
      · have hB9 : ¬ go_B a K = 2 := fun e => c25 ((go_ba_eq hM.1 hI.1 hK9 (by decide)).mpr e)
        refine lv_bipush (v := (-2)) hx hb dX1_trial_28 (by decide) ?_
        refine go_mri X hK hS ((bd, rc, dd, kp)) hP hD dX1_trial_30 ?_
        exact ⟨(go_att_tk hP2 hK9 hB9).symm, hM⟩
    · refine lv_iconst (v := (-1)) hx hb dX1_trial_16 (by decide) ?_
      refine go_mri X hK hS ((bd, rc, dd, kp)) hP hD dX1_trial_17 ?_
      exact ⟨(go_att_bad (fun h => (go_bo p10).1 c13 h.2)).symm, hM⟩
set_option maxHeartbeats 4000000 in
set_option maxRecDepth 100000 in
theorem gX1_moves  (pa : Int32) (hM : go_MI a bd hi hf hs dn cp) (hI : go_AI a) : ∀ sz : Nat, Met l yX1_moves (ws_ yX1_moves cX1_moves 4 (some .int)) ({ frames := 6, cells := 0, slots := 0, locals := 141 } : Room) (go_mP D (go_M b cs bd hi hf hs dn cp rc dd kp) (go_Mt cs) sz [.ref (b 0), .int pa]) (go_mQi (fun (r : Int32) (u : (Nat → Int32) × (Nat → Int32) × (Nat → Int32) × (Nat → Int32)) => match u with | (bd', rc', dd', kp') => r = go_aMov (go_B a) (go_n a) (go_HB a) pa ∧ go_MI a bd' hi hf hs dn cp) D (go_Mt cs) (fun u : (Nat → Int32) × (Nat → Int32) × (Nat → Int32) × (Nat → Int32) => match u with | (bd', rc', dd', kp') => go_M b cs bd' hi hf hs dn cp rc' dd' kp') (va_A (go_M b cs bd hi hf hs dn cp rc dd kp) sz)) 0 0 (va_A (go_M b cs bd hi hf hs dn cp rc dd kp) sz) := by
  refine go_mMet (Qf := fun A => go_mQi (fun (r : Int32) (u : (Nat → Int32) × (Nat → Int32) × (Nat → Int32) × (Nat → Int32)) => match u with | (bd', rc', dd', kp') => r = go_aMov (go_B a) (go_n a) (go_HB a) pa ∧ go_MI a bd' hi hf hs dn cp) D (go_Mt cs) (fun u : (Nat → Int32) × (Nat → Int32) × (Nat → Int32) × (Nat → Int32) => match u with | (bd', rc', dd', kp') => go_M b cs bd' hi hf hs dn cp rc' dd' kp') A) (by decide) (Nat.le_of_ble_eq_true rfl) ?_
  intro p e s m below meth c ls A X hK hP hD hA hS hl
  have hl : lv_has ls 4 [(0, .ref (b 0)), (1, .int pa)] := hl
  obtain ⟨hx, hb, hml, hr, hlocks, hown, hts⟩ := id X
  have hP : va_P D go_cl (go_M b cs bd hi hf hs dn cp rc dd kp) s.heap := hP
  refine lv_aload_n hx hb dX1_moves_0 rfl (lv_at hl 0 rfl) ?_
  refine lv_iload_n hx hb dX1_moves_1 rfl (lv_at hl 1 rfl) ?_
  refine go_pcI (As := [.int pa]) (rest := []) X (gX1_isPlayer pa) (cwV 1 hts (lw_V q227 q229 qs12 q27 q230) rfl rfl rfl (by decide +kernel) ⟨Nat.le_of_ble_eq_true rfl, Nat.le_of_ble_eq_true rfl⟩) hK hP (va_recv hK hP (ci := 1) (q0 := 0) rfl rfl) rfl rfl hl.1 (Nat.le_of_ble_eq_true rfl) dX1_moves_2 ⟨Nat.zero_le _, Nat.zero_le _⟩ hS (fun r2 H1 locs p2 hk hS => ?_)
  have hP := hk _ hP
  clear hk
  generalize H1 = H at hP hS ⊢
  refine lv_if_ne (tgt := 10) hx hb dX1_moves_5 (by decide) (fun c5 => ?_) (fun c5 => ?_)
  · have hp := (go_bo p2).2 c5
    refine lv_iconst (v := nI 0) hx hb dX1_moves_10 (by decide) ?_
    refine lv_istore_n (lv' := [(2, .int (nI 0)), (0, .ref (b 0)), (1, .int pa)]) hx hb dX1_moves_11 rfl hl (by decide) rfl (fun ls hl => ?_)
    refine lv_iconst (v := nI 0) hx hb dX1_moves_12 (by decide) ?_
    refine lv_istore_n (lv' := [(3, .int (nI 0)), (2, .int (nI 0)), (0, .ref (b 0)), (1, .int pa)]) hx hb dX1_moves_13 rfl hl (by decide) rfl (fun ls hl => ?_)
    have lp14 : ∀ (n : Nat) (k ct : Nat) (xbd : (Nat → Int32)) (xrc : (Nat → Int32)) (xdd : (Nat → Int32)) (xkp : (Nat → Int32)), 50 ≤ k + n → k ≤ 49 → ct = go_cnt (fun j => 0 ≤ go_att (go_B a) (go_n a) (go_HB a) pa (nI j)) k → go_MI a xbd hi hf hs dn cp → ∀ (H : Heap) (locs : List Loc) (ls : Array Slot), va_P D go_cl (go_M b cs xbd hi hf hs dn cp xrc xdd xkp) H → va_D A (go_M b cs xbd hi hf hs dn cp xrc xdd xkp) → va_S A s.heap H locs → lv_has ls 4 [(0, .ref (b 0)), (1, .int pa), (2, .int (nI ct)), (3, .int (nI k))] → W p l e ({ frames := 6, cells := 0, slots := 0, locals := 141 } : Room) s m ([.ref (b 0), .int pa] : List Value).toArray below meth c H locs 0 0 (MQ below (go_mQi (fun (r : Int32) (u : (Nat → Int32) × (Nat → Int32) × (Nat → Int32) × (Nat → Int32)) => match u with | (bd', rc', dd', kp') => r = go_aMov (go_B a) (go_n a) (go_HB a) pa ∧ go_MI a bd' hi hf hs dn cp) D (go_Mt cs) (fun u : (Nat → Int32) × (Nat → Int32) × (Nat → Int32) × (Nat → Int32) => match u with | (bd', rc', dd', kp') => go_M b cs bd' hi hf hs dn cp rc' dd' kp') A) ([.ref (b 0), .int pa] : List Value).toArray s 0 0 A) (F0 m 14 ls []) := by
      intro n
      induction n with
      | zero =>
        intro k ct xbd xrc xdd xkp hn hk hct hMx
        exact absurd hn (by omega)
      | succ n ih =>
        intro k ct xbd xrc xdd xkp hn hk hct hMx H locs ls hP hD hS hl
        refine lv_iload_n hx hb dX1_moves_14 rfl (lv_at hl 3 rfl) ?_
        refine lv_bipush (v := nI 49) hx hb dX1_moves_15 (by decide) ?_
        refine lv_icmp_ge (tgt := 43) hx hb dX1_moves_17 (by decide) (fun c17 => ?_) (fun c17 => ?_)
        · have c17 : 49 ≤ k := (nI_leI (a := 49) (b := k) (by omega) (by omega)).mp c17
          refine lv_iload_n hx hb dX1_moves_43 rfl (lv_at hl 2 rfl) ?_
          refine go_mri X hK hS ((xbd, xrc, xdd, xkp)) hP hD dX1_moves_44 ?_
          refine ⟨?_, hMx⟩
          rw [hct, show k = 49 by omega]
          unfold go_aMov
          exact (go_ite_t hp).symm
        · have c17 : ¬ 49 ≤ k := fun h => c17 ((nI_leI (a := 49) (b := k) (by omega) (by omega)).mpr h)
          have hct49 := go_cnt_le (fun j => 0 ≤ go_att (go_B a) (go_n a) (go_HB a) pa (nI j)) k
          refine lv_aload_n hx hb dX1_moves_20 rfl (lv_at hl 0 rfl) ?_
          refine lv_iload_n hx hb dX1_moves_21 rfl (lv_at hl 1 rfl) ?_
          refine lv_iload_n hx hb dX1_moves_22 rfl (lv_at hl 3 rfl) ?_
          refine go_mcI (As := [.int pa, .int (nI k)]) (rest := []) X (gX1_trial pa (nI k) hMx hI) (cwV 2 hts (lw_V q307 q300 q301 q27 q302) rfl rfl rfl (by decide +kernel) ⟨Nat.le_of_ble_eq_true rfl, Nat.le_of_ble_eq_true rfl⟩) hK hP hD hA (va_recv hK hP (ci := 1) (q0 := 0) rfl rfl) rfl rfl hl.1 (Nat.le_of_ble_eq_true rfl) dX1_moves_23 ⟨Nat.zero_le _, Nat.zero_le _⟩ hS (fun r23 u23 H1 locs p23 hP hD hS hk => ?_)
          clear hk
          obtain ⟨bd_23, rc_23, dd_23, kp_23⟩ := u23
          generalize H1 = H at hP hS ⊢
          have hP : va_P D go_cl (go_M b cs bd_23 hi hf hs dn cp rc_23 dd_23 kp_23) H := hP
          have hD : va_D A (go_M b cs bd_23 hi hf hs dn cp rc_23 dd_23 kp_23) := hD
          try dsimp only at p23
          refine lv_if_lt (tgt := 35) hx hb dX1_moves_26 (by decide) (fun c26 => ?_) (fun c26 => ?_)
          · have hm : ¬ (0 ≤ go_att (go_B a) (go_n a) (go_HB a) pa (nI k)) := by rw [← p23.1]; exact fun h => go_lt_le c26 h
            refine lv_iload_n hx hb dX1_moves_35 rfl (lv_at hl 2 rfl) ?_
            refine lv_istore_n (lv' := [(2, .int (nI ct)), (0, .ref (b 0)), (1, .int pa), (3, .int (nI k))]) hx hb dX1_moves_36 rfl hl (by decide) rfl (fun ls hl => ?_)
            refine lv_iinc (v := nI (k + 1)) (lv' := [(3, .int (nI (k + 1))), (2, .int (nI ct)), (0, .ref (b 0)), (1, .int pa)]) hx hb dX1_moves_37 hl (k := 3) rfl (nI_add k 1) (by decide) rfl (fun ls hl => ?_)
            refine lv_goto (tgt := 14) hx hb dX1_moves_40 (by decide) ?_
            exact ih (k + 1) ct bd_23 rc_23 dd_23 kp_23 (by omega) (by omega) (by rw [go_cnt_n (P := fun j => 0 ≤ go_att (go_B a) (go_n a) (go_HB a) pa (nI j)) hm]; exact hct) p23.2 _ _ _ hP hD hS (lv_sub hl [2, 3, 1, 0] rfl)
          · have hm : 0 ≤ go_att (go_B a) (go_n a) (go_HB a) pa (nI k) := by rw [← p23.1]; exact go_nlt_le c26
            refine lv_iload_n hx hb dX1_moves_29 rfl (lv_at hl 2 rfl) ?_
            refine lv_iconst (v := nI 1) hx hb dX1_moves_30 (by decide) ?_
            refine lv_iadd hx hb dX1_moves_31 ?_
            refine lv_topi (fun v31 e31 => ?_)
            obtain rfl : v31 = nI (ct + 1) := e31.trans (nI_add ct 1)
            refine lv_goto (tgt := 36) hx hb dX1_moves_32 (by decide) ?_
            refine lv_istore_n (lv' := [(2, .int (nI (ct + 1))), (0, .ref (b 0)), (1, .int pa), (3, .int (nI k))]) hx hb dX1_moves_36 rfl hl (by decide) rfl (fun ls hl => ?_)
            refine lv_iinc (v := nI (k + 1)) (lv' := [(3, .int (nI (k + 1))), (2, .int (nI (ct + 1))), (0, .ref (b 0)), (1, .int pa)]) hx hb dX1_moves_37 hl (k := 3) rfl (nI_add k 1) (by decide) rfl (fun ls hl => ?_)
            refine lv_goto (tgt := 14) hx hb dX1_moves_40 (by decide) ?_
            exact ih (k + 1) (ct + 1) bd_23 rc_23 dd_23 kp_23 (by omega) (by omega) (by rw [go_cnt_y (P := fun j => 0 ≤ go_att (go_B a) (go_n a) (go_HB a) pa (nI j)) hm, ← hct]) p23.2 _ _ _ hP hD hS (lv_sub hl [2, 3, 1, 0] rfl)
    exact lp14 50 0 0 bd rc dd kp (by omega) (by omega) rfl hM _ _ _ hP hD hS (lv_sub hl [2, 3, 1, 0] rfl)
  · have hp := (go_bo p2).1 c5
    refine lv_iconst (v := (-1)) hx hb dX1_moves_8 (by decide) ?_
    refine go_mri X hK hS ((bd, rc, dd, kp)) hP hD dX1_moves_9 ?_
    refine ⟨?_, hM⟩
    unfold go_aMov
    exact (go_ite_f hp).symm
set_option maxHeartbeats 4000000 in
set_option maxRecDepth 100000 in
theorem gX1_groups  (pa : Int32) (hM : go_MI a bd hi hf hs dn cp) (hI : go_AI a) : ∀ sz : Nat, Met l yX1_groups (ws_ yX1_groups cX1_groups 4 (some .int)) ({ frames := 3, cells := 0, slots := 0, locals := 71 } : Room) (go_mP D (go_M b cs bd hi hf hs dn cp rc dd kp) (go_Mt cs) sz [.ref (b 0), .int pa]) (go_mQi (fun (r : Int32) (rc' : (Nat → Int32)) => r = go_aGrp (go_B a) pa) D (go_Mt cs) (fun rc' : (Nat → Int32) => go_M b cs bd hi hf hs dn cp rc' dd kp) (va_A (go_M b cs bd hi hf hs dn cp rc dd kp) sz)) 0 0 (va_A (go_M b cs bd hi hf hs dn cp rc dd kp) sz) := by
  refine go_mMet (Qf := fun A => go_mQi (fun (r : Int32) (rc' : (Nat → Int32)) => r = go_aGrp (go_B a) pa) D (go_Mt cs) (fun rc' : (Nat → Int32) => go_M b cs bd hi hf hs dn cp rc' dd kp) A) (by decide) (Nat.le_of_ble_eq_true rfl) ?_
  intro p e s m below meth c ls A X hK hP hD hA hS hl
  have hl : lv_has ls 4 [(0, .ref (b 0)), (1, .int pa)] := hl
  obtain ⟨hx, hb, hml, hr, hlocks, hown, hts⟩ := id X
  have hP : va_P D go_cl (go_M b cs bd hi hf hs dn cp rc dd kp) s.heap := hP
  refine lv_aload_n hx hb dX1_groups_0 rfl (lv_at hl 0 rfl) ?_
  refine lv_iload_n hx hb dX1_groups_1 rfl (lv_at hl 1 rfl) ?_
  refine go_pcI (As := [.int pa]) (rest := []) X (gX1_isPlayer pa) (cwV 1 hts (lw_V q227 q229 qs12 q27 q230) rfl rfl rfl (by decide +kernel) ⟨Nat.le_of_ble_eq_true rfl, Nat.le_of_ble_eq_true rfl⟩) hK hP (va_recv hK hP (ci := 1) (q0 := 0) rfl rfl) rfl rfl hl.1 (Nat.le_of_ble_eq_true rfl) dX1_groups_2 ⟨Nat.zero_le _, Nat.zero_le _⟩ hS (fun r2 H1 locs p2 hk hS => ?_)
  have hP := hk _ hP
  clear hk
  generalize H1 = H at hP hS ⊢
  refine lv_if_ne (tgt := 10) hx hb dX1_groups_5 (by decide) (fun c5 => ?_) (fun c5 => ?_)
  · obtain ⟨P, hP2, rfl⟩ := (go_bo p2).2 c5
    refine lv_iconst (v := nI 0) hx hb dX1_groups_10 (by decide) ?_
    refine lv_istore_n (lv' := [(2, .int (nI 0)), (0, .ref (b 0)), (1, .int (nI P))]) hx hb dX1_groups_11 rfl hl (by decide) rfl (fun ls hl => ?_)
    refine lv_iconst (v := nI 0) hx hb dX1_groups_12 (by decide) ?_
    refine lv_istore_n (lv' := [(3, .int (nI 0)), (2, .int (nI 0)), (0, .ref (b 0)), (1, .int (nI P))]) hx hb dX1_groups_13 rfl hl (by decide) rfl (fun ls hl => ?_)
    have lp14 : ∀ (n : Nat) (k ct : Nat) (xrc : (Nat → Int32)), 50 ≤ k + n → k ≤ 49 → ct = go_cnt (go_hd (go_B a) P) k → ∀ (H : Heap) (locs : List Loc) (ls : Array Slot), va_P D go_cl (go_M b cs bd hi hf hs dn cp xrc dd kp) H → va_D A (go_M b cs bd hi hf hs dn cp xrc dd kp) → va_S A s.heap H locs → lv_has ls 4 [(0, .ref (b 0)), (1, .int (nI P)), (2, .int (nI ct)), (3, .int (nI k))] → W p l e ({ frames := 3, cells := 0, slots := 0, locals := 71 } : Room) s m ([.ref (b 0), .int (nI P)] : List Value).toArray below meth c H locs 0 0 (MQ below (go_mQi (fun (r : Int32) (rc' : (Nat → Int32)) => r = go_aGrp (go_B a) (nI P)) D (go_Mt cs) (fun rc' : (Nat → Int32) => go_M b cs bd hi hf hs dn cp rc' dd kp) A) ([.ref (b 0), .int (nI P)] : List Value).toArray s 0 0 A) (F0 m 14 ls []) := by
      intro n
      induction n with
      | zero =>
        intro k ct xrc hn hk hct
        exact absurd hn (by omega)
      | succ n ih =>
        intro k ct xrc hn hk hct H locs ls hP hD hS hl
        refine lv_iload_n hx hb dX1_groups_14 rfl (lv_at hl 3 rfl) ?_
        refine lv_bipush (v := nI 49) hx hb dX1_groups_15 (by decide) ?_
        refine lv_icmp_ge (tgt := 58) hx hb dX1_groups_17 (by decide) (fun c17 => ?_) (fun c17 => ?_)
        · have c17 : 49 ≤ k := (nI_leI (a := 49) (b := k) (by omega) (by omega)).mp c17
          refine lv_iload_n hx hb dX1_groups_58 rfl (lv_at hl 2 rfl) ?_
          refine go_mri X hK hS (xrc) hP hD dX1_groups_59 ?_
          rw [go_aGrp_y hP2, hct, show k = 49 by omega]
        · have c17 : ¬ 49 ≤ k := fun h => c17 ((nI_leI (a := 49) (b := k) (by omega) (by omega)).mpr h)
          have hk9 : k < 49 := by omega
          have hct49 := go_cnt_le (go_hd (go_B a) P) k
          refine lv_aload_n hx hb dX1_groups_20 rfl (lv_at hl 0 rfl) ?_
          refine va_get (D := D) (ci := 1) (v := .ref (b 1)) (C := RX1) (T := TX1) (N := 9) hx hb hts in_X1 hown hK hP 0 rfl rfl 0 (by decide) (hts _ q194) (fun _ h9 => h9) rfl dX1_groups_21 ?_
          refine lv_iload_n hx hb dX1_groups_24 rfl (lv_at hl 3 rfl) ?_
          refine go_ild hx hb hK hP 1 0 rfl rfl k (rfl) (by omega) (by decide) dX1_groups_25 ?_
          refine lv_iload_n hx hb dX1_groups_26 rfl (lv_at hl 1 rfl) ?_
          refine lv_icmp_ne (tgt := 52) hx hb dX1_groups_27 (by decide) (fun c27 => ?_) (fun c27 => ?_)
          · have hne : ¬ go_B a k = P := fun e => c27 ((go_ba_eq hM.1 hI.1 hk9 (by omega)).mpr e)
            refine lv_iinc (v := nI (k + 1)) (lv' := [(3, .int (nI (k + 1))), (0, .ref (b 0)), (1, .int (nI P)), (2, .int (nI ct))]) hx hb dX1_groups_52 hl (k := 3) rfl (nI_add k 1) (by decide) rfl (fun ls hl => ?_)
            refine lv_goto (tgt := 14) hx hb dX1_groups_55 (by decide) ?_
            exact ih (k + 1) ct xrc (by omega) (by omega) (by rw [go_cnt_n (fun h => hne h.2.1)]; exact hct) _ _ _ hP hD hS (lv_sub hl [1, 2, 3, 0] rfl)
          · have heq : go_B a k = P := (go_ba_eq hM.1 hI.1 hk9 (by omega)).mp c27
            refine lv_aload_n hx hb dX1_groups_30 rfl (lv_at hl 0 rfl) ?_
            refine lv_iload_n hx hb dX1_groups_31 rfl (lv_at hl 3 rfl) ?_
            refine go_mcI (As := [.int (nI k)]) (rest := []) X (gX1_reachFrom (B := go_B a) k hk9 hM.1 hI.1) (cwV 1 hts (lw_V q243 q245 qs16 q27 q246) rfl rfl rfl (by decide +kernel) ⟨Nat.le_of_ble_eq_true rfl, Nat.le_of_ble_eq_true rfl⟩) hK hP hD hA (va_recv hK hP (ci := 1) (q0 := 0) rfl rfl) rfl rfl hl.1 (Nat.le_of_ble_eq_true rfl) dX1_groups_32 ⟨Nat.zero_le _, Nat.zero_le _⟩ hS (fun r32 u32 H1 locs p32 hP hD hS hk => ?_)
            clear hk
            obtain ⟨rc_32, rfl⟩ : ∃ z, z = u32 := ⟨_, rfl⟩
            generalize H1 = H at hP hS ⊢
            have hP : va_P D go_cl (go_M b cs bd hi hf hs dn cp rc_32 dd kp) H := hP
            have hD : va_D A (go_M b cs bd hi hf hs dn cp rc_32 dd kp) := hD
            try dsimp only at p32
            refine lv_pop hx hb dX1_groups_35 rfl ?_
            refine lv_aload_n hx hb dX1_groups_36 rfl (lv_at hl 0 rfl) ?_
            refine go_pcI (As := []) (rest := []) X (gX1_firstReached (Z := go_gp (go_B a) k) p32.2 ⟨k, hk9, go_gp_q hk9⟩) (cwV 0 hts (lw_V q312 q314 qs23 q27 q315) rfl rfl rfl (by decide +kernel) ⟨Nat.le_of_ble_eq_true rfl, Nat.le_of_ble_eq_true rfl⟩) hK hP (va_recv hK hP (ci := 1) (q0 := 0) rfl rfl) rfl rfl hl.1 (Nat.le_of_ble_eq_true rfl) dX1_groups_37 ⟨Nat.zero_le _, Nat.zero_le _⟩ hS (fun r37 H1 locs p37 hk hS => ?_)
            have hP := hk _ hP
            clear hk
            generalize H1 = H at hP hS ⊢
            obtain ⟨F, rfl, f1, f2, f3⟩ := p37
            have hhd := go_hd_F hk9 heq f2 f3
            refine lv_iload_n hx hb dX1_groups_40 rfl (lv_at hl 3 rfl) ?_
            refine lv_icmp_ne (tgt := 50) hx hb dX1_groups_41 (by decide) (fun c41 => ?_) (fun c41 => ?_)
            · have c41 : ¬ F = k := fun h => c41 ((nI_eq (a := F) (b := k) (by omega) (by omega)).mpr h)
              refine lv_iload_n hx hb dX1_groups_50 rfl (lv_at hl 2 rfl) ?_
              refine lv_istore_n (lv' := [(2, .int (nI ct)), (0, .ref (b 0)), (1, .int (nI P)), (3, .int (nI k))]) hx hb dX1_groups_51 rfl hl (by decide) rfl (fun ls hl => ?_)
              refine lv_iinc (v := nI (k + 1)) (lv' := [(3, .int (nI (k + 1))), (2, .int (nI ct)), (0, .ref (b 0)), (1, .int (nI P))]) hx hb dX1_groups_52 hl (k := 3) rfl (nI_add k 1) (by decide) rfl (fun ls hl => ?_)
              refine lv_goto (tgt := 14) hx hb dX1_groups_55 (by decide) ?_
              exact ih (k + 1) ct rc_32 (by omega) (by omega) (by rw [go_cnt_n (fun h => c41 (hhd.mpr h))]; exact hct) _ _ _ hP hD hS (lv_sub hl [2, 3, 1, 0] rfl)
            · have c41 : F = k := (nI_eq (a := F) (b := k) (by omega) (by omega)).mp c41
              refine lv_iload_n hx hb dX1_groups_44 rfl (lv_at hl 2 rfl) ?_
              refine lv_iconst (v := nI 1) hx hb dX1_groups_45 (by decide) ?_
              refine lv_iadd hx hb dX1_groups_46 ?_
              refine lv_topi (fun v46 e46 => ?_)
              obtain rfl : v46 = nI (ct + 1) := e46.trans (nI_add ct 1)
              refine lv_goto (tgt := 51) hx hb dX1_groups_47 (by decide) ?_
              refine lv_istore_n (lv' := [(2, .int (nI (ct + 1))), (0, .ref (b 0)), (1, .int (nI P)), (3, .int (nI k))]) hx hb dX1_groups_51 rfl hl (by decide) rfl (fun ls hl => ?_)
              refine lv_iinc (v := nI (k + 1)) (lv' := [(3, .int (nI (k + 1))), (2, .int (nI (ct + 1))), (0, .ref (b 0)), (1, .int (nI P))]) hx hb dX1_groups_52 hl (k := 3) rfl (nI_add k 1) (by decide) rfl (fun ls hl => ?_)
              refine lv_goto (tgt := 14) hx hb dX1_groups_55 (by decide) ?_
              exact ih (k + 1) (ct + 1) rc_32 (by omega) (by omega) (by rw [go_cnt_y (hhd.mp c41), ← hct]) _ _ _ hP hD hS (lv_sub hl [2, 3, 1, 0] rfl)
    exact lp14 50 0 0 rc (by omega) (by omega) rfl _ _ _ hP hD hS (lv_sub hl [2, 3, 1, 0] rfl)
  · have hq := (go_bo p2).1 c5
    refine lv_iconst (v := (-1)) hx hb dX1_groups_8 (by decide) ?_
    refine go_mri X hK hS (rc) hP hD dX1_groups_9 ?_
    exact (go_onp_n hq).symm
set_option maxHeartbeats 4000000 in
set_option maxRecDepth 100000 in
theorem gX1_inAtari  (pa : Int32) (hM : go_MI a bd hi hf hs dn cp) (hI : go_AI a) : ∀ sz : Nat, Met l yX1_inAtari (ws_ yX1_inAtari cX1_inAtari 4 (some .int)) ({ frames := 3, cells := 0, slots := 0, locals := 71 } : Room) (go_mP D (go_M b cs bd hi hf hs dn cp rc dd kp) (go_Mt cs) sz [.ref (b 0), .int pa]) (go_mQi (fun (r : Int32) (rc' : (Nat → Int32)) => r = go_aAta (go_B a) pa) D (go_Mt cs) (fun rc' : (Nat → Int32) => go_M b cs bd hi hf hs dn cp rc' dd kp) (va_A (go_M b cs bd hi hf hs dn cp rc dd kp) sz)) 0 0 (va_A (go_M b cs bd hi hf hs dn cp rc dd kp) sz) := by
  refine go_mMet (Qf := fun A => go_mQi (fun (r : Int32) (rc' : (Nat → Int32)) => r = go_aAta (go_B a) pa) D (go_Mt cs) (fun rc' : (Nat → Int32) => go_M b cs bd hi hf hs dn cp rc' dd kp) A) (by decide) (Nat.le_of_ble_eq_true rfl) ?_
  intro p e s m below meth c ls A X hK hP hD hA hS hl
  have hl : lv_has ls 4 [(0, .ref (b 0)), (1, .int pa)] := hl
  obtain ⟨hx, hb, hml, hr, hlocks, hown, hts⟩ := id X
  have hP : va_P D go_cl (go_M b cs bd hi hf hs dn cp rc dd kp) s.heap := hP
  refine lv_aload_n hx hb dX1_inAtari_0 rfl (lv_at hl 0 rfl) ?_
  refine lv_iload_n hx hb dX1_inAtari_1 rfl (lv_at hl 1 rfl) ?_
  refine go_pcI (As := [.int pa]) (rest := []) X (gX1_isPlayer pa) (cwV 1 hts (lw_V q227 q229 qs12 q27 q230) rfl rfl rfl (by decide +kernel) ⟨Nat.le_of_ble_eq_true rfl, Nat.le_of_ble_eq_true rfl⟩) hK hP (va_recv hK hP (ci := 1) (q0 := 0) rfl rfl) rfl rfl hl.1 (Nat.le_of_ble_eq_true rfl) dX1_inAtari_2 ⟨Nat.zero_le _, Nat.zero_le _⟩ hS (fun r2 H1 locs p2 hk hS => ?_)
  have hP := hk _ hP
  clear hk
  generalize H1 = H at hP hS ⊢
  refine lv_if_ne (tgt := 10) hx hb dX1_inAtari_5 (by decide) (fun c5 => ?_) (fun c5 => ?_)
  · obtain ⟨P, hP2, rfl⟩ := (go_bo p2).2 c5
    refine lv_iconst (v := nI 0) hx hb dX1_inAtari_10 (by decide) ?_
    refine lv_istore_n (lv' := [(2, .int (nI 0)), (0, .ref (b 0)), (1, .int (nI P))]) hx hb dX1_inAtari_11 rfl hl (by decide) rfl (fun ls hl => ?_)
    refine lv_iconst (v := nI 0) hx hb dX1_inAtari_12 (by decide) ?_
    refine lv_istore_n (lv' := [(3, .int (nI 0)), (2, .int (nI 0)), (0, .ref (b 0)), (1, .int (nI P))]) hx hb dX1_inAtari_13 rfl hl (by decide) rfl (fun ls hl => ?_)
    have lp14 : ∀ (n : Nat) (k ct : Nat) (xrc : (Nat → Int32)), 50 ≤ k + n → k ≤ 49 → ct = go_cnt (go_at1 (go_B a) P) k → ∀ (H : Heap) (locs : List Loc) (ls : Array Slot), va_P D go_cl (go_M b cs bd hi hf hs dn cp xrc dd kp) H → va_D A (go_M b cs bd hi hf hs dn cp xrc dd kp) → va_S A s.heap H locs → lv_has ls 4 [(0, .ref (b 0)), (1, .int (nI P)), (2, .int (nI ct)), (3, .int (nI k))] → W p l e ({ frames := 3, cells := 0, slots := 0, locals := 71 } : Room) s m ([.ref (b 0), .int (nI P)] : List Value).toArray below meth c H locs 0 0 (MQ below (go_mQi (fun (r : Int32) (rc' : (Nat → Int32)) => r = go_aAta (go_B a) (nI P)) D (go_Mt cs) (fun rc' : (Nat → Int32) => go_M b cs bd hi hf hs dn cp rc' dd kp) A) ([.ref (b 0), .int (nI P)] : List Value).toArray s 0 0 A) (F0 m 14 ls []) := by
      intro n
      induction n with
      | zero =>
        intro k ct xrc hn hk hct
        exact absurd hn (by omega)
      | succ n ih =>
        intro k ct xrc hn hk hct H locs ls hP hD hS hl
        refine lv_iload_n hx hb dX1_inAtari_14 rfl (lv_at hl 3 rfl) ?_
        refine lv_bipush (v := nI 49) hx hb dX1_inAtari_15 (by decide) ?_
        refine lv_icmp_ge (tgt := 58) hx hb dX1_inAtari_17 (by decide) (fun c17 => ?_) (fun c17 => ?_)
        · have c17 : 49 ≤ k := (nI_leI (a := 49) (b := k) (by omega) (by omega)).mp c17
          refine lv_iload_n hx hb dX1_inAtari_58 rfl (lv_at hl 2 rfl) ?_
          refine go_mri X hK hS (xrc) hP hD dX1_inAtari_59 ?_
          rw [go_aAta_y hP2, hct, show k = 49 by omega]
        · have c17 : ¬ 49 ≤ k := fun h => c17 ((nI_leI (a := 49) (b := k) (by omega) (by omega)).mpr h)
          have hk9 : k < 49 := by omega
          have hct49 := go_cnt_le (go_at1 (go_B a) P) k
          refine lv_aload_n hx hb dX1_inAtari_20 rfl (lv_at hl 0 rfl) ?_
          refine va_get (D := D) (ci := 1) (v := .ref (b 1)) (C := RX1) (T := TX1) (N := 9) hx hb hts in_X1 hown hK hP 0 rfl rfl 0 (by decide) (hts _ q194) (fun _ h9 => h9) rfl dX1_inAtari_21 ?_
          refine lv_iload_n hx hb dX1_inAtari_24 rfl (lv_at hl 3 rfl) ?_
          refine go_ild hx hb hK hP 1 0 rfl rfl k (rfl) (by omega) (by decide) dX1_inAtari_25 ?_
          refine lv_iload_n hx hb dX1_inAtari_26 rfl (lv_at hl 1 rfl) ?_
          refine lv_icmp_ne (tgt := 52) hx hb dX1_inAtari_27 (by decide) (fun c27 => ?_) (fun c27 => ?_)
          · have hne : ¬ go_B a k = P := fun e => c27 ((go_ba_eq hM.1 hI.1 hk9 (by omega)).mpr e)
            refine lv_iinc (v := nI (k + 1)) (lv' := [(3, .int (nI (k + 1))), (0, .ref (b 0)), (1, .int (nI P)), (2, .int (nI ct))]) hx hb dX1_inAtari_52 hl (k := 3) rfl (nI_add k 1) (by decide) rfl (fun ls hl => ?_)
            refine lv_goto (tgt := 14) hx hb dX1_inAtari_55 (by decide) ?_
            exact ih (k + 1) ct xrc (by omega) (by omega) (by rw [go_cnt_n (fun h => hne h.2.1)]; exact hct) _ _ _ hP hD hS (lv_sub hl [1, 2, 3, 0] rfl)
          · have heq : go_B a k = P := (go_ba_eq hM.1 hI.1 hk9 (by omega)).mp c27
            refine lv_aload_n hx hb dX1_inAtari_30 rfl (lv_at hl 0 rfl) ?_
            refine lv_iload_n hx hb dX1_inAtari_31 rfl (lv_at hl 3 rfl) ?_
            refine go_mcI (As := [.int (nI k)]) (rest := []) X (gX1_reachFrom (B := go_B a) k hk9 hM.1 hI.1) (cwV 1 hts (lw_V q243 q245 qs16 q27 q246) rfl rfl rfl (by decide +kernel) ⟨Nat.le_of_ble_eq_true rfl, Nat.le_of_ble_eq_true rfl⟩) hK hP hD hA (va_recv hK hP (ci := 1) (q0 := 0) rfl rfl) rfl rfl hl.1 (Nat.le_of_ble_eq_true rfl) dX1_inAtari_32 ⟨Nat.zero_le _, Nat.zero_le _⟩ hS (fun r32 u32 H1 locs p32 hP hD hS hk => ?_)
            clear hk
            obtain ⟨rc_32, rfl⟩ : ∃ z, z = u32 := ⟨_, rfl⟩
            generalize H1 = H at hP hS ⊢
            have hP : va_P D go_cl (go_M b cs bd hi hf hs dn cp rc_32 dd kp) H := hP
            have hD : va_D A (go_M b cs bd hi hf hs dn cp rc_32 dd kp) := hD
            try dsimp only at p32
            refine lv_pop hx hb dX1_inAtari_35 rfl ?_
            refine lv_aload_n hx hb dX1_inAtari_36 rfl (lv_at hl 0 rfl) ?_
            refine go_pcI (As := []) (rest := []) X (gX1_countLiberties (B := go_B a) (Z := go_gp (go_B a) k) hM.1 hI.1 p32.2) (cwV 0 hts (lw_V q255 q257 qs19 q27 q258) rfl rfl rfl (by decide +kernel) ⟨Nat.le_of_ble_eq_true rfl, Nat.le_of_ble_eq_true rfl⟩) hK hP (va_recv hK hP (ci := 1) (q0 := 0) rfl rfl) rfl rfl hl.1 (Nat.le_of_ble_eq_true rfl) dX1_inAtari_37 ⟨Nat.zero_le _, Nat.zero_le _⟩ hS (fun r37 H1 locs p37 hk hS => ?_)
            have hP := hk _ hP
            clear hk
            generalize H1 = H at hP hS ⊢
            have hnl49 := go_nl_le (go_B a) k
            refine lv_iconst (v := nI 1) hx hb dX1_inAtari_40 (by decide) ?_
            refine lv_icmp_ne (tgt := 50) hx hb dX1_inAtari_41 (by decide) (fun c41 => ?_) (fun c41 => ?_)
            · have hone : ¬ go_nl (go_B a) k = 1 := fun e => c41 (p37.trans (congrArg nI e))
              refine lv_iload_n hx hb dX1_inAtari_50 rfl (lv_at hl 2 rfl) ?_
              refine lv_istore_n (lv' := [(2, .int (nI ct)), (0, .ref (b 0)), (1, .int (nI P)), (3, .int (nI k))]) hx hb dX1_inAtari_51 rfl hl (by decide) rfl (fun ls hl => ?_)
              refine lv_iinc (v := nI (k + 1)) (lv' := [(3, .int (nI (k + 1))), (2, .int (nI ct)), (0, .ref (b 0)), (1, .int (nI P))]) hx hb dX1_inAtari_52 hl (k := 3) rfl (nI_add k 1) (by decide) rfl (fun ls hl => ?_)
              refine lv_goto (tgt := 14) hx hb dX1_inAtari_55 (by decide) ?_
              exact ih (k + 1) ct rc_32 (by omega) (by omega) (by rw [go_cnt_n (fun h => hone h.2.2)]; exact hct) _ _ _ hP hD hS (lv_sub hl [2, 3, 1, 0] rfl)
            · have hone : go_nl (go_B a) k = 1 := (nI_eq (a := go_nl (go_B a) k) (b := 1) (by omega) (by decide)).mp (p37.symm.trans c41)
              refine lv_iload_n hx hb dX1_inAtari_44 rfl (lv_at hl 2 rfl) ?_
              refine lv_iconst (v := nI 1) hx hb dX1_inAtari_45 (by decide) ?_
              refine lv_iadd hx hb dX1_inAtari_46 ?_
              refine lv_topi (fun v46 e46 => ?_)
              obtain rfl : v46 = nI (ct + 1) := e46.trans (nI_add ct 1)
              refine lv_goto (tgt := 51) hx hb dX1_inAtari_47 (by decide) ?_
              refine lv_istore_n (lv' := [(2, .int (nI (ct + 1))), (0, .ref (b 0)), (1, .int (nI P)), (3, .int (nI k))]) hx hb dX1_inAtari_51 rfl hl (by decide) rfl (fun ls hl => ?_)
              refine lv_iinc (v := nI (k + 1)) (lv' := [(3, .int (nI (k + 1))), (2, .int (nI (ct + 1))), (0, .ref (b 0)), (1, .int (nI P))]) hx hb dX1_inAtari_52 hl (k := 3) rfl (nI_add k 1) (by decide) rfl (fun ls hl => ?_)
              refine lv_goto (tgt := 14) hx hb dX1_inAtari_55 (by decide) ?_
              exact ih (k + 1) (ct + 1) rc_32 (by omega) (by omega) (by rw [go_cnt_y (⟨hk9, heq, hone⟩), ← hct]) _ _ _ hP hD hS (lv_sub hl [2, 3, 1, 0] rfl)
    exact lp14 50 0 0 rc (by omega) (by omega) rfl _ _ _ hP hD hS (lv_sub hl [2, 3, 1, 0] rfl)
  · have hq := (go_bo p2).1 c5
    refine lv_iconst (v := (-1)) hx hb dX1_inAtari_8 (by decide) ?_
    refine go_mri X hK hS (rc) hP hD dX1_inAtari_9 ?_
    exact (go_onp_n hq).symm
set_option maxHeartbeats 4000000 in
set_option maxRecDepth 100000 in
theorem gX1_score  (pa : Int32) (hM : go_MI a bd hi hf hs dn cp) (hI : go_AI a) : ∀ sz : Nat, Met l yX1_score (ws_ yX1_score cX1_score 4 (some .int)) ({ frames := 3, cells := 0, slots := 0, locals := 71 } : Room) (go_mP D (go_M b cs bd hi hf hs dn cp rc dd kp) (go_Mt cs) sz [.ref (b 0), .int pa]) (go_mQi (fun (r : Int32) (rc' : (Nat → Int32)) => r = go_aSc (go_B a) pa) D (go_Mt cs) (fun rc' : (Nat → Int32) => go_M b cs bd hi hf hs dn cp rc' dd kp) (va_A (go_M b cs bd hi hf hs dn cp rc dd kp) sz)) 0 0 (va_A (go_M b cs bd hi hf hs dn cp rc dd kp) sz) := by
  refine go_mMet (Qf := fun A => go_mQi (fun (r : Int32) (rc' : (Nat → Int32)) => r = go_aSc (go_B a) pa) D (go_Mt cs) (fun rc' : (Nat → Int32) => go_M b cs bd hi hf hs dn cp rc' dd kp) A) (by decide) (Nat.le_of_ble_eq_true rfl) ?_
  intro p e s m below meth c ls A X hK hP hD hA hS hl
  have hl : lv_has ls 4 [(0, .ref (b 0)), (1, .int pa)] := hl
  obtain ⟨hx, hb, hml, hr, hlocks, hown, hts⟩ := id X
  have hP : va_P D go_cl (go_M b cs bd hi hf hs dn cp rc dd kp) s.heap := hP
  refine lv_aload_n hx hb dX1_score_0 rfl (lv_at hl 0 rfl) ?_
  refine lv_iload_n hx hb dX1_score_1 rfl (lv_at hl 1 rfl) ?_
  refine go_pcI (As := [.int pa]) (rest := []) X (gX1_isPlayer pa) (cwV 1 hts (lw_V q227 q229 qs12 q27 q230) rfl rfl rfl (by decide +kernel) ⟨Nat.le_of_ble_eq_true rfl, Nat.le_of_ble_eq_true rfl⟩) hK hP (va_recv hK hP (ci := 1) (q0 := 0) rfl rfl) rfl rfl hl.1 (Nat.le_of_ble_eq_true rfl) dX1_score_2 ⟨Nat.zero_le _, Nat.zero_le _⟩ hS (fun r2 H1 locs p2 hk hS => ?_)
  have hP := hk _ hP
  clear hk
  generalize H1 = H at hP hS ⊢
  refine lv_if_ne (tgt := 10) hx hb dX1_score_5 (by decide) (fun c5 => ?_) (fun c5 => ?_)
  · obtain ⟨P, hP2, rfl⟩ := (go_bo p2).2 c5
    refine lv_iconst (v := nI 0) hx hb dX1_score_10 (by decide) ?_
    refine lv_istore_n (lv' := [(2, .int (nI 0)), (0, .ref (b 0)), (1, .int (nI P))]) hx hb dX1_score_11 rfl hl (by decide) rfl (fun ls hl => ?_)
    refine lv_iconst (v := nI 0) hx hb dX1_score_12 (by decide) ?_
    refine lv_istore_n (lv' := [(3, .int (nI 0)), (2, .int (nI 0)), (0, .ref (b 0)), (1, .int (nI P))]) hx hb dX1_score_13 rfl hl (by decide) rfl (fun ls hl => ?_)
    have lp14 : ∀ (n : Nat) (k ct : Nat) (xrc : (Nat → Int32)), 50 ≤ k + n → k ≤ 49 → ct = go_cnt (go_sc (go_B a) P) k → ∀ (H : Heap) (locs : List Loc) (ls : Array Slot), va_P D go_cl (go_M b cs bd hi hf hs dn cp xrc dd kp) H → va_D A (go_M b cs bd hi hf hs dn cp xrc dd kp) → va_S A s.heap H locs → lv_has ls 4 [(0, .ref (b 0)), (1, .int (nI P)), (2, .int (nI ct)), (3, .int (nI k))] → W p l e ({ frames := 3, cells := 0, slots := 0, locals := 71 } : Room) s m ([.ref (b 0), .int (nI P)] : List Value).toArray below meth c H locs 0 0 (MQ below (go_mQi (fun (r : Int32) (rc' : (Nat → Int32)) => r = go_aSc (go_B a) (nI P)) D (go_Mt cs) (fun rc' : (Nat → Int32) => go_M b cs bd hi hf hs dn cp rc' dd kp) A) ([.ref (b 0), .int (nI P)] : List Value).toArray s 0 0 A) (F0 m 14 ls []) := by
      intro n
      induction n with
      | zero =>
        intro k ct xrc hn hk hct
        exact absurd hn (by omega)
      | succ n ih =>
        intro k ct xrc hn hk hct H locs ls hP hD hS hl
        refine lv_iload_n hx hb dX1_score_14 rfl (lv_at hl 3 rfl) ?_
        refine lv_bipush (v := nI 49) hx hb dX1_score_15 (by decide) ?_
        refine lv_icmp_ge (tgt := 81) hx hb dX1_score_17 (by decide) (fun c17 => ?_) (fun c17 => ?_)
        · have c17 : 49 ≤ k := (nI_leI (a := 49) (b := k) (by omega) (by omega)).mp c17
          refine lv_iload_n hx hb dX1_score_81 rfl (lv_at hl 2 rfl) ?_
          refine go_mri X hK hS (xrc) hP hD dX1_score_82 ?_
          rw [go_aSc_y hP2, hct, show k = 49 by omega]
        · have c17 : ¬ 49 ≤ k := fun h => c17 ((nI_leI (a := 49) (b := k) (by omega) (by omega)).mpr h)
          have hk9 : k < 49 := by omega
          have hct49 := go_cnt_le (go_sc (go_B a) P) k
          refine lv_aload_n hx hb dX1_score_20 rfl (lv_at hl 0 rfl) ?_
          refine va_get (D := D) (ci := 1) (v := .ref (b 1)) (C := RX1) (T := TX1) (N := 9) hx hb hts in_X1 hown hK hP 0 rfl rfl 0 (by decide) (hts _ q194) (fun _ h9 => h9) rfl dX1_score_21 ?_
          refine lv_iload_n hx hb dX1_score_24 rfl (lv_at hl 3 rfl) ?_
          refine go_ild hx hb hK hP 1 0 rfl rfl k (rfl) (by omega) (by decide) dX1_score_25 ?_
          refine lv_iload_n hx hb dX1_score_26 rfl (lv_at hl 1 rfl) ?_
          refine lv_icmp_ne (tgt := 33) hx hb dX1_score_27 (by decide) (fun c27 => ?_) (fun c27 => ?_)
          · have hne : ¬ go_B a k = P := fun e => c27 ((go_ba_eq hM.1 hI.1 hk9 (by omega)).mpr e)
            refine lv_aload_n hx hb dX1_score_33 rfl (lv_at hl 0 rfl) ?_
            refine va_get (D := D) (ci := 1) (v := .ref (b 1)) (C := RX1) (T := TX1) (N := 9) hx hb hts in_X1 hown hK hP 0 rfl rfl 0 (by decide) (hts _ q194) (fun _ h9 => h9) rfl dX1_score_34 ?_
            refine lv_iload_n hx hb dX1_score_37 rfl (lv_at hl 3 rfl) ?_
            refine go_ild hx hb hK hP 1 0 rfl rfl k (rfl) (by omega) (by decide) dX1_score_38 ?_
            refine lv_iconst (v := nI 2) hx hb dX1_score_39 (by decide) ?_
            refine lv_icmp_ne (tgt := 75) hx hb dX1_score_40 (by decide) (fun c40 => ?_) (fun c40 => ?_)
            · have hne2 : ¬ go_B a k = 2 := fun e => c40 ((go_ba_eq hM.1 hI.1 hk9 (by decide)).mpr e)
              refine lv_iinc (v := nI (k + 1)) (lv' := [(3, .int (nI (k + 1))), (0, .ref (b 0)), (1, .int (nI P)), (2, .int (nI ct))]) hx hb dX1_score_75 hl (k := 3) rfl (nI_add k 1) (by decide) rfl (fun ls hl => ?_)
              refine lv_goto (tgt := 14) hx hb dX1_score_78 (by decide) ?_
              exact ih (k + 1) ct xrc (by omega) (by omega) (by rw [go_cnt_n (fun h => h.2.elim hne (fun h2 => hne2 h2.1))]; exact hct) _ _ _ hP hD hS (lv_sub hl [1, 2, 3, 0] rfl)
            · have heq2 : go_B a k = 2 := (go_ba_eq hM.1 hI.1 hk9 (by decide)).mp c40
              refine lv_aload_n hx hb dX1_score_43 rfl (lv_at hl 0 rfl) ?_
              refine lv_iload_n hx hb dX1_score_44 rfl (lv_at hl 3 rfl) ?_
              refine go_mcI (As := [.int (nI k)]) (rest := []) X (gX1_reachFrom (B := go_B a) k hk9 hM.1 hI.1) (cwV 1 hts (lw_V q243 q245 qs16 q27 q246) rfl rfl rfl (by decide +kernel) ⟨Nat.le_of_ble_eq_true rfl, Nat.le_of_ble_eq_true rfl⟩) hK hP hD hA (va_recv hK hP (ci := 1) (q0 := 0) rfl rfl) rfl rfl hl.1 (Nat.le_of_ble_eq_true rfl) dX1_score_45 ⟨Nat.zero_le _, Nat.zero_le _⟩ hS (fun r45 u45 H1 locs p45 hP hD hS hk => ?_)
              clear hk
              obtain ⟨rc_45, rfl⟩ : ∃ z, z = u45 := ⟨_, rfl⟩
              generalize H1 = H at hP hS ⊢
              have hP : va_P D go_cl (go_M b cs bd hi hf hs dn cp rc_45 dd kp) H := hP
              have hD : va_D A (go_M b cs bd hi hf hs dn cp rc_45 dd kp) := hD
              try dsimp only at p45
              refine lv_pop hx hb dX1_score_48 rfl ?_
              refine lv_aload_n hx hb dX1_score_49 rfl (lv_at hl 0 rfl) ?_
              refine lv_iload_n hx hb dX1_score_50 rfl (lv_at hl 1 rfl) ?_
              refine go_pcI (As := [.int (nI P)]) (rest := []) X (gX1_touches (B := go_B a) (Z := go_gp (go_B a) k) P (by omega) hM.1 hI.1 p45.2) (cwV 1 hts (lw_V q324 q326 qs24 q27 q327) rfl rfl rfl (by decide +kernel) ⟨Nat.le_of_ble_eq_true rfl, Nat.le_of_ble_eq_true rfl⟩) hK hP (va_recv hK hP (ci := 1) (q0 := 0) rfl rfl) rfl rfl hl.1 (Nat.le_of_ble_eq_true rfl) dX1_score_51 ⟨Nat.zero_le _, Nat.zero_le _⟩ hS (fun r51 H1 locs p51 hk hS => ?_)
              have hP := hk _ hP
              clear hk
              generalize H1 = H at hP hS ⊢
              refine lv_if_eq (tgt := 73) hx hb dX1_score_54 (by decide) (fun c54 => ?_) (fun c54 => ?_)
              · refine lv_iload_n hx hb dX1_score_73 rfl (lv_at hl 2 rfl) ?_
                refine lv_istore_n (lv' := [(2, .int (nI ct)), (0, .ref (b 0)), (1, .int (nI P)), (3, .int (nI k))]) hx hb dX1_score_74 rfl hl (by decide) rfl (fun ls hl => ?_)
                refine lv_iinc (v := nI (k + 1)) (lv' := [(3, .int (nI (k + 1))), (2, .int (nI ct)), (0, .ref (b 0)), (1, .int (nI P))]) hx hb dX1_score_75 hl (k := 3) rfl (nI_add k 1) (by decide) rfl (fun ls hl => ?_)
                refine lv_goto (tgt := 14) hx hb dX1_score_78 (by decide) ?_
                exact ih (k + 1) ct rc_45 (by omega) (by omega) (by rw [go_cnt_n (fun h => h.2.elim hne (fun h2 => (go_bo p51).1 c54 (go_tc_i.mpr h2.2.1)))]; exact hct) _ _ _ hP hD hS (lv_sub hl [2, 3, 1, 0] rfl)
              · refine lv_aload_n hx hb dX1_score_57 rfl (lv_at hl 0 rfl) ?_
                refine lv_iconst (v := nI 1) hx hb dX1_score_58 (by decide) ?_
                refine lv_iload_n hx hb dX1_score_59 rfl (lv_at hl 1 rfl) ?_
                refine lv_isub hx hb dX1_score_60 ?_
                refine lv_topi (fun v60 e60 => ?_)
                obtain rfl : v60 = nI (1 - P) := e60.trans (pk_sub (by omega))
                refine go_pcI (As := [.int (nI (1 - P))]) (rest := []) X (gX1_touches (B := go_B a) (Z := go_gp (go_B a) k) (1 - P) (by omega) hM.1 hI.1 p45.2) (cwV 1 hts (lw_V q324 q326 qs24 q27 q327) rfl rfl rfl (by decide +kernel) ⟨Nat.le_of_ble_eq_true rfl, Nat.le_of_ble_eq_true rfl⟩) hK hP (va_recv hK hP (ci := 1) (q0 := 0) rfl rfl) rfl rfl hl.1 (Nat.le_of_ble_eq_true rfl) dX1_score_61 ⟨Nat.zero_le _, Nat.zero_le _⟩ hS (fun r61 H1 locs p61 hk hS => ?_)
                have hP := hk _ hP
                clear hk
                generalize H1 = H at hP hS ⊢
                refine lv_if_ne (tgt := 73) hx hb dX1_score_64 (by decide) (fun c64 => ?_) (fun c64 => ?_)
                · refine lv_iload_n hx hb dX1_score_73 rfl (lv_at hl 2 rfl) ?_
                  refine lv_istore_n (lv' := [(2, .int (nI ct)), (0, .ref (b 0)), (1, .int (nI P)), (3, .int (nI k))]) hx hb dX1_score_74 rfl hl (by decide) rfl (fun ls hl => ?_)
                  refine lv_iinc (v := nI (k + 1)) (lv' := [(3, .int (nI (k + 1))), (2, .int (nI ct)), (0, .ref (b 0)), (1, .int (nI P))]) hx hb dX1_score_75 hl (k := 3) rfl (nI_add k 1) (by decide) rfl (fun ls hl => ?_)
                  refine lv_goto (tgt := 14) hx hb dX1_score_78 (by decide) ?_
                  exact ih (k + 1) ct rc_45 (by omega) (by omega) (by rw [go_cnt_n (fun h => h.2.elim hne (fun h2 => h2.2.2 (go_tc_i.mp ((go_bo p61).2 c64))))]; exact hct) _ _ _ hP hD hS (lv_sub hl [2, 3, 1, 0] rfl)
                · refine lv_iload_n hx hb dX1_score_67 rfl (lv_at hl 2 rfl) ?_
                  refine lv_iconst (v := nI 1) hx hb dX1_score_68 (by decide) ?_
                  refine lv_iadd hx hb dX1_score_69 ?_
                  refine lv_topi (fun v69 e69 => ?_)
                  obtain rfl : v69 = nI (ct + 1) := e69.trans (nI_add ct 1)
                  refine lv_goto (tgt := 74) hx hb dX1_score_70 (by decide) ?_
                  refine lv_istore_n (lv' := [(2, .int (nI (ct + 1))), (0, .ref (b 0)), (1, .int (nI P)), (3, .int (nI k))]) hx hb dX1_score_74 rfl hl (by decide) rfl (fun ls hl => ?_)
                  refine lv_iinc (v := nI (k + 1)) (lv' := [(3, .int (nI (k + 1))), (2, .int (nI (ct + 1))), (0, .ref (b 0)), (1, .int (nI P))]) hx hb dX1_score_75 hl (k := 3) rfl (nI_add k 1) (by decide) rfl (fun ls hl => ?_)
                  refine lv_goto (tgt := 14) hx hb dX1_score_78 (by decide) ?_
                  exact ih (k + 1) (ct + 1) rc_45 (by omega) (by omega) (by rw [go_cnt_y (⟨hk9, Or.inr ⟨heq2, go_tc_i.mp ((go_bo p51).2 c54), fun h => (go_bo p61).1 c64 (go_tc_i.mpr h)⟩⟩), ← hct]) _ _ _ hP hD hS (lv_sub hl [2, 3, 1, 0] rfl)
          · have heq : go_B a k = P := (go_ba_eq hM.1 hI.1 hk9 (by omega)).mp c27
            refine lv_iinc (v := nI (ct + 1)) (lv' := [(2, .int (nI (ct + 1))), (0, .ref (b 0)), (1, .int (nI P)), (3, .int (nI k))]) hx hb dX1_score_30 hl (k := 2) rfl (nI_add ct 1) (by decide) rfl (fun ls hl => ?_)
            refine lv_aload_n hx hb dX1_score_33 rfl (lv_at hl 1 rfl) ?_
            refine va_get (D := D) (ci := 1) (v := .ref (b 1)) (C := RX1) (T := TX1) (N := 9) hx hb hts in_X1 hown hK hP 0 rfl rfl 0 (by decide) (hts _ q194) (fun _ h9 => h9) rfl dX1_score_34 ?_
            refine lv_iload_n hx hb dX1_score_37 rfl (lv_at hl 3 rfl) ?_
            refine go_ild hx hb hK hP 1 0 rfl rfl k (rfl) (by omega) (by decide) dX1_score_38 ?_
            refine lv_iconst (v := nI 2) hx hb dX1_score_39 (by decide) ?_
            refine lv_icmp_ne (tgt := 75) hx hb dX1_score_40 (by decide) (fun c40 => ?_) (fun c40 => ?_)
            · have hne2 : ¬ go_B a k = 2 := fun e => c40 ((go_ba_eq hM.1 hI.1 hk9 (by decide)).mpr e)
              refine lv_iinc (v := nI (k + 1)) (lv' := [(3, .int (nI (k + 1))), (2, .int (nI (ct + 1))), (0, .ref (b 0)), (1, .int (nI P))]) hx hb dX1_score_75 hl (k := 3) rfl (nI_add k 1) (by decide) rfl (fun ls hl => ?_)
              refine lv_goto (tgt := 14) hx hb dX1_score_78 (by decide) ?_
              exact ih (k + 1) (ct + 1) xrc (by omega) (by omega) (by rw [go_cnt_y (⟨hk9, Or.inl heq⟩), ← hct]) _ _ _ hP hD hS (lv_sub hl [2, 3, 1, 0] rfl)
            · have heq2 : go_B a k = 2 := (go_ba_eq hM.1 hI.1 hk9 (by decide)).mp c40
              omega
    exact lp14 50 0 0 rc (by omega) (by omega) rfl _ _ _ hP hD hS (lv_sub hl [2, 3, 1, 0] rfl)
  · have hq := (go_bo p2).1 c5
    refine lv_iconst (v := (-1)) hx hb dX1_score_8 (by decide) ?_
    refine go_mri X hK hS (rc) hP hD dX1_score_9 ?_
    exact (go_onp_n hq).symm
end GoM
end
section
/-! the two constructors: printed by gen/i1.py -/
theorem go_iMet {l : Launch} {y : MethodName} {cc : ByteArray} {maxL mc ms : Nat} {rm : Room} {D : va_G} {w : va_W} {tys : List (ClassId × FieldType)} {av : List Value} {Qf : (Nat → Prop) → Array Value → State → Outcome → State → Prop} (hy : plainName y.cls = true) (hle : (lg_sl av).length ≤ maxL)
    (body : ∀ (p : Program) (e : Env) (s : State) (m : MethodId) (below : List Frame) (meth : Method) (c : Code) (ls : Array Slot) (A : Nat → Prop), go_Cx p s m av.toArray meth c cc maxL none y.cls → meth.name = y.name → va_K D go_cl tys s → va_P D go_cl w s.heap → va_D A w → (∀ q : Nat, s.heap.size ≤ q → A q) → va_S A s.heap s.heap [] → lv_has ls maxL (lv_args 0 av) → W p l e rm s m av.toArray below meth c s.heap [] 0 0 (MQ below (Qf A) av.toArray s mc ms A) (F0 m 0 ls [])) :
    ∀ sz : Nat, Met l y (ws_ y cc maxL none) rm (go_mP D w tys sz av) (Qf (va_A w sz)) mc ms (va_A w sz) := by
  intro sz
  refine Met.ofW (cc := cc) (maxL := maxL) (ret := none) hy rfl ?_
  intro p e s m args below meth c s₁ B hml hv
  obtain ⟨rfl, hsz, hP, hK, hD0⟩ := hv
  subst hsz
  have hts := atoms_spec (ws := ws_ y cc maxL none) B.pre
  have hts : ∀ w ∈ lw_all, w.before _ s = true := fun w h => hts w (List.mem_cons_of_mem _ h)
  have hown : s.vm.findClass y.cls = some m.cls := findClass_of_methodNamed B.named
  have hin : meth.name = y.name := (name_of_methodNamed B.named B.method).1
  have hl := lv_entry av (n := maxL) hle
  rw [lg_entry_eq]
  generalize (lg_sl av ++ List.replicate (maxL - (lg_sl av).length) Slot.unset).toArray = ls at hl ⊢
  exact body p e s m below meth c ls (va_A w s.heap.size) ⟨B.exec, B.bytes, hml, B.returns, B.notSynchronized, hown, hts⟩ hin hK hP (hD0.self (sz := s.heap.size)) (fun q h => Or.inr h) va_S.rf hl
theorem go_iI_1 {x : Int64} {k : Nat} (h : ∀ j, go_m x j ↔ j < k) (hk : k < 64) (j : Nat) : go_m (x ||| ((1 : Int64) <<< ((nI k).toInt64 &&& 63))) j ↔ j < k + 1 := by
  rw [go_m_or, h j, go_m_b hk]
  omega
theorem go_iI_y {x : Int64} {k r : Nat} (h : ∀ j, go_m x j ↔ j < k ∧ j % 7 = r) (hk : k < 64) (hr : k % 7 = r) (j : Nat) : go_m (x ||| ((1 : Int64) <<< ((nI k).toInt64 &&& 63))) j ↔ j < k + 1 ∧ j % 7 = r := by
  rw [go_m_or, h j, go_m_b hk]
  constructor
  · intro h
    rcases h with h | h
    · exact ⟨by omega, h.2⟩
    · exact ⟨by omega, by rw [h]; exact hr⟩
  · intro ⟨h1, h2⟩
    by_cases c : j = k
    · exact Or.inr c
    · exact Or.inl ⟨by omega, h2⟩
theorem go_iI_n {x : Int64} {k r : Nat} (h : ∀ j, go_m x j ↔ j < k ∧ j % 7 = r) (hr : ¬ k % 7 = r) (j : Nat) : go_m x j ↔ j < k + 1 ∧ j % 7 = r := by
  rw [h j]
  constructor
  · intro ⟨h1, h2⟩
    exact ⟨by omega, h2⟩
  · intro ⟨h1, h2⟩
    by_cases c : j = k
    · rw [c] at h2; exact absurd h2 hr
    · exact ⟨by omega, h2⟩
theorem go_iI_f {x : Int64} (h : ∀ j, go_m x j ↔ j < 49 ∧ j % 7 = 0) : go_ALL &&& (x ^^^ (-1)) = go_NF := by
  refine go_m_ext (fun j _ => ?_)
  rw [go_m_off, go_m_ALL, h j, go_m_NF]
  exact ⟨fun ⟨h1, h2⟩ => ⟨h1, fun e => h2 ⟨h1, e⟩⟩, fun ⟨h1, h2⟩ => ⟨h1, fun e => h2 e.2⟩⟩
theorem go_iI_l {x : Int64} (h : ∀ j, go_m x j ↔ j < 49 ∧ j % 7 = 6) : go_ALL &&& (x ^^^ (-1)) = go_NL := by
  refine go_m_ext (fun j _ => ?_)
  rw [go_m_off, go_m_ALL, h j, go_m_NL]
  exact ⟨fun ⟨h1, h2⟩ => ⟨h1, fun e => h2 ⟨h1, e⟩⟩, fun ⟨h1, h2⟩ => ⟨h1, fun e => h2 e.2⟩⟩
def go_iX0 (D : va_G) (h0 : Nat) (A : Nat → Prop) : Array Value → State → Outcome → State → Prop := va_Qv (fun _ : Unit => True) (fun _ t => ∃ (b : Nat → Nat) (cs : Nat → ClassId), b 0 = h0 ∧ va_P D go_cl (go_G b cs 0 0 0 (fun _ => 0) (fun _ => 0) (fun _ => 0) 0 0 0 0) t.heap ∧ va_K D go_cl (go_Gt cs) t ∧ va_D A (go_G b cs 0 0 0 (fun _ => 0) (fun _ => 0) (fun _ => 0) 0 0 0 0)) A
set_option maxHeartbeats 4000000 in
set_option maxRecDepth 100000 in
theorem gX0_init {l : Launch} {D : va_G} (h0 : Nat) : ∀ sz : Nat, Met l yX0_init (ws_ yX0_init cX0_init 8 none) ({ frames := 1, cells := 3, slots := 120, locals := 12 } : Room) (go_mP D [(h0, .inr (0, [.long 0, .long 0, .long 0, .long 0, .long 0, .int 0, .null, .null, .null, .int 0, .int 0, .long 0, .long 0]))] [] sz [.ref h0]) (go_iX0 D h0 (va_A [(h0, .inr (0, [.long 0, .long 0, .long 0, .long 0, .long 0, .int 0, .null, .null, .null, .int 0, .int 0, .long 0, .long 0]))] sz)) 3 120 (va_A [(h0, .inr (0, [.long 0, .long 0, .long 0, .long 0, .long 0, .int 0, .null, .null, .null, .int 0, .int 0, .long 0, .long 0]))] sz) := by
  refine go_iMet (Qf := fun A => go_iX0 D h0 A) (by decide) (Nat.le_of_ble_eq_true rfl) ?_
  intro p e s m below meth c ls A X hin hK hP hD hA hS hl
  have hl : lv_has ls 8 [(0, .ref h0)] := hl
  have hin : meth.name = "<init>" := hin
  obtain ⟨hx, hb, hml, hr, hlocks, hown, hts⟩ := id X
  have hP : va_P D go_cl [(h0, .inr (0, [.long 0, .long 0, .long 0, .long 0, .long 0, .int 0, .null, .null, .null, .int 0, .int 0, .long 0, .long 0]))] s.heap := hP
  refine lv_aload_n hx hb dX0_init_0 rfl (lv_at hl 0 rfl) ?_
  refine W.objInit hx hb hown (hts _ q33) (hts _ q34) (hts _ q35) rfl (by rw [hml]; exact hl.1) rfl dX0_init_1 (Nat.le_of_ble_eq_true rfl) (Nat.le_of_ble_eq_true rfl) ?_
  refine W.eq (g2 := F0 m 4 ls []) rfl ?_
  refine lv_aload_n hx hb dX0_init_4 rfl (lv_at hl 0 rfl) ?_
  refine lv_bipush (v := nI 40) hx hb dX0_init_5 (by decide) ?_
  refine va_newa (D := D) (atype := .long) hx hb (hts _ q77) (ty := .long) rfl hK hP hD hS hA (n := nI 40) (N' := 40) (a0 := (40, .inr (.inl (fun _ => 0)))) (fun _ => rfl) (by decide) (nI_clamp (by decide)) (by decide) (Nat.le_of_ble_eq_true rfl) (Nat.le_of_ble_eq_true rfl) dX0_init_7 (fun q1 cA1 H hK hP hD hS => ?_)
  have hP : va_P D go_cl ([(h0, .inr (0, [.long 0, .long 0, .long 0, .long 0, .long 0, .int 0, .null, .null, .null, .int 0, .int 0, .long 0, .long 0])), (q1, .inl (cA1, 40, .inr (.inl (fun _ => 0))))]) H := hP
  have hD : va_D A ([(h0, .inr (0, [.long 0, .long 0, .long 0, .long 0, .long 0, .int 0, .null, .null, .null, .int 0, .int 0, .long 0, .long 0])), (q1, .inl (cA1, 40, .inr (.inl (fun _ => 0))))]) := hD
  have hK : va_K D go_cl [(cA1, .long)] s := hK
  refine va_putF (D := D) (ci := 0) (v := .ref q1) (ty := .array .long) (C := RX0) (T := TX0) (N := 13) hx hb hts in_X0 tyX0 tyX0_ok nmX0 hown hK hP hD hS 0 rfl rfl 6 (by decide) (hts _ q43) (fun _ h9 => h9) rfl hin rfl (by decide +kernel) rfl rfl (Nat.le_of_ble_eq_true rfl) dX0_init_9 (fun H locs hP hD hS => ?_)
  have hP : va_P D go_cl ([(h0, .inr (0, [.long 0, .long 0, .long 0, .long 0, .long 0, .int 0, .ref q1, .null, .null, .int 0, .int 0, .long 0, .long 0])), (q1, .inl (cA1, 40, .inr (.inl (fun _ => 0))))]) H := hP
  have hD : va_D A ([(h0, .inr (0, [.long 0, .long 0, .long 0, .long 0, .long 0, .int 0, .ref q1, .null, .null, .int 0, .int 0, .long 0, .long 0])), (q1, .inl (cA1, 40, .inr (.inl (fun _ => 0))))]) := hD
  refine lv_aload_n hx hb dX0_init_12 rfl (lv_at hl 0 rfl) ?_
  refine lv_bipush (v := nI 40) hx hb dX0_init_13 (by decide) ?_
  refine va_newa (D := D) (atype := .long) hx hb (hts _ q77) (ty := .long) rfl hK hP hD hS hA (n := nI 40) (N' := 40) (a0 := (40, .inr (.inl (fun _ => 0)))) (fun _ => rfl) (by decide) (nI_clamp (by decide)) (by decide) (Nat.le_of_ble_eq_true rfl) (Nat.le_of_ble_eq_true rfl) dX0_init_15 (fun q2 cA2 H hK hP hD hS => ?_)
  have hP : va_P D go_cl ([(h0, .inr (0, [.long 0, .long 0, .long 0, .long 0, .long 0, .int 0, .ref q1, .null, .null, .int 0, .int 0, .long 0, .long 0])), (q1, .inl (cA1, 40, .inr (.inl (fun _ => 0)))), (q2, .inl (cA2, 40, .inr (.inl (fun _ => 0))))]) H := hP
  have hD : va_D A ([(h0, .inr (0, [.long 0, .long 0, .long 0, .long 0, .long 0, .int 0, .ref q1, .null, .null, .int 0, .int 0, .long 0, .long 0])), (q1, .inl (cA1, 40, .inr (.inl (fun _ => 0)))), (q2, .inl (cA2, 40, .inr (.inl (fun _ => 0))))]) := hD
  have hK : va_K D go_cl [(cA1, .long), (cA2, .long)] s := hK
  refine va_putF (D := D) (ci := 0) (v := .ref q2) (ty := .array .long) (C := RX0) (T := TX0) (N := 13) hx hb hts in_X0 tyX0 tyX0_ok nmX0 hown hK hP hD hS 0 rfl rfl 7 (by decide) (hts _ q44) (fun _ h9 => h9) rfl hin rfl (by decide +kernel) rfl rfl (Nat.le_of_ble_eq_true rfl) dX0_init_17 (fun H locs hP hD hS => ?_)
  have hP : va_P D go_cl ([(h0, .inr (0, [.long 0, .long 0, .long 0, .long 0, .long 0, .int 0, .ref q1, .ref q2, .null, .int 0, .int 0, .long 0, .long 0])), (q1, .inl (cA1, 40, .inr (.inl (fun _ => 0)))), (q2, .inl (cA2, 40, .inr (.inl (fun _ => 0))))]) H := hP
  have hD : va_D A ([(h0, .inr (0, [.long 0, .long 0, .long 0, .long 0, .long 0, .int 0, .ref q1, .ref q2, .null, .int 0, .int 0, .long 0, .long 0])), (q1, .inl (cA1, 40, .inr (.inl (fun _ => 0)))), (q2, .inl (cA2, 40, .inr (.inl (fun _ => 0))))]) := hD
  refine lv_aload_n hx hb dX0_init_20 rfl (lv_at hl 0 rfl) ?_
  refine lv_bipush (v := nI 40) hx hb dX0_init_21 (by decide) ?_
  refine va_newa (D := D) (atype := .int) hx hb (hts _ q78) (ty := .int) rfl hK hP hD hS hA (n := nI 40) (N' := 40) (a0 := (40, .inl (fun _ => 0))) (fun _ => rfl) (by decide) (nI_clamp (by decide)) (by decide) (Nat.le_of_ble_eq_true rfl) (Nat.le_of_ble_eq_true rfl) dX0_init_23 (fun q3 cA3 H hK hP hD hS => ?_)
  have hP : va_P D go_cl ([(h0, .inr (0, [.long 0, .long 0, .long 0, .long 0, .long 0, .int 0, .ref q1, .ref q2, .null, .int 0, .int 0, .long 0, .long 0])), (q1, .inl (cA1, 40, .inr (.inl (fun _ => 0)))), (q2, .inl (cA2, 40, .inr (.inl (fun _ => 0)))), (q3, .inl (cA3, 40, .inl (fun _ => 0)))]) H := hP
  have hD : va_D A ([(h0, .inr (0, [.long 0, .long 0, .long 0, .long 0, .long 0, .int 0, .ref q1, .ref q2, .null, .int 0, .int 0, .long 0, .long 0])), (q1, .inl (cA1, 40, .inr (.inl (fun _ => 0)))), (q2, .inl (cA2, 40, .inr (.inl (fun _ => 0)))), (q3, .inl (cA3, 40, .inl (fun _ => 0)))]) := hD
  have hK : va_K D go_cl [(cA1, .long), (cA2, .long), (cA3, .int)] s := hK
  refine va_putF (D := D) (ci := 0) (v := .ref q3) (ty := .array .int) (C := RX0) (T := TX0) (N := 13) hx hb hts in_X0 tyX0 tyX0_ok nmX0 hown hK hP hD hS 0 rfl rfl 8 (by decide) (hts _ q45) (fun _ h9 => h9) rfl hin rfl (by decide +kernel) rfl rfl (Nat.le_of_ble_eq_true rfl) dX0_init_25 (fun H locs hP hD hS => ?_)
  have hP : va_P D go_cl ([(h0, .inr (0, [.long 0, .long 0, .long 0, .long 0, .long 0, .int 0, .ref q1, .ref q2, .ref q3, .int 0, .int 0, .long 0, .long 0])), (q1, .inl (cA1, 40, .inr (.inl (fun _ => 0)))), (q2, .inl (cA2, 40, .inr (.inl (fun _ => 0)))), (q3, .inl (cA3, 40, .inl (fun _ => 0)))]) H := hP
  have hD : va_D A ([(h0, .inr (0, [.long 0, .long 0, .long 0, .long 0, .long 0, .int 0, .ref q1, .ref q2, .ref q3, .int 0, .int 0, .long 0, .long 0])), (q1, .inl (cA1, 40, .inr (.inl (fun _ => 0)))), (q2, .inl (cA2, 40, .inr (.inl (fun _ => 0)))), (q3, .inl (cA3, 40, .inl (fun _ => 0)))]) := hD
  refine lv_lconst (v := 0) hx hb dX0_init_28 (by decide) ?_
  refine lv_lstore_n (lv' := [(1, .long 0), (0, .ref h0)]) hx hb dX0_init_29 rfl hl (by decide) rfl (fun ls hl => ?_)
  refine lv_lconst (v := 0) hx hb dX0_init_30 (by decide) ?_
  refine lv_lstore_n (lv' := [(3, .long 0), (1, .long 0), (0, .ref h0)]) hx hb dX0_init_31 rfl hl (by decide) rfl (fun ls hl => ?_)
  refine lv_lconst (v := 0) hx hb dX0_init_32 (by decide) ?_
  refine lv_lstore (lv' := [(5, .long 0), (3, .long 0), (1, .long 0), (0, .ref h0)]) hx hb dX0_init_33 hl (by decide) rfl (fun ls hl => ?_)
  refine lv_iconst (v := nI 0) hx hb dX0_init_35 (by decide) ?_
  refine lv_istore (lv' := [(7, .int (nI 0)), (5, .long 0), (3, .long 0), (1, .long 0), (0, .ref h0)]) hx hb dX0_init_36 hl (by decide) rfl (fun ls hl => ?_)
  have lp38 : ∀ (n : Nat) (k : Nat) (x1 x3 x5 : Int64) , 50 ≤ k + n → k ≤ 49 → (∀ j, go_m x1 j ↔ j < k) → (∀ j, go_m x3 j ↔ j < k ∧ j % 7 = 0) → (∀ j, go_m x5 j ↔ j < k ∧ j % 7 = 6) → ∀ (H : Heap) (locs : List Loc) (ls : Array Slot), va_P D go_cl ([(h0, .inr (0, [.long 0, .long 0, .long 0, .long 0, .long 0, .int 0, .ref q1, .ref q2, .ref q3, .int 0, .int 0, .long 0, .long 0])), (q1, .inl (cA1, 40, .inr (.inl (fun _ => 0)))), (q2, .inl (cA2, 40, .inr (.inl (fun _ => 0)))), (q3, .inl (cA3, 40, .inl (fun _ => 0)))]) H → va_D A ([(h0, .inr (0, [.long 0, .long 0, .long 0, .long 0, .long 0, .int 0, .ref q1, .ref q2, .ref q3, .int 0, .int 0, .long 0, .long 0])), (q1, .inl (cA1, 40, .inr (.inl (fun _ => 0)))), (q2, .inl (cA2, 40, .inr (.inl (fun _ => 0)))), (q3, .inl (cA3, 40, .inl (fun _ => 0)))]) → va_S A s.heap H locs → lv_has ls 8 [(0, .ref h0), (1, .long x1), (3, .long x3), (5, .long x5), (7, .int (nI k))] → W p l e ({ frames := 1, cells := 3, slots := 120, locals := 12 } : Room) s m ([.ref h0] : List Value).toArray below meth c H locs 3 120 (MQ below (va_Qv (fun _ : Unit => True) (fun _ t => ∃ (b : Nat → Nat) (cs : Nat → ClassId), b 0 = h0 ∧ va_P D go_cl (go_G b cs 0 0 0 (fun _ => 0) (fun _ => 0) (fun _ => 0) 0 0 0 0) t.heap ∧ va_K D go_cl (go_Gt cs) t ∧ va_D A (go_G b cs 0 0 0 (fun _ => 0) (fun _ => 0) (fun _ => 0) 0 0 0 0)) A) ([.ref h0] : List Value).toArray s 3 120 A) (F0 m 38 ls []) := by
    intro n
    induction n with
    | zero =>
      intro k x1 x3 x5  hn hk h1 h3 h5
      exact absurd hn (by omega)
    | succ n ih =>
      intro k x1 x3 x5  hn hk h1 h3 h5 H locs ls hP hD hS hl
      refine lv_iload hx hb dX0_init_38 (lv_at hl 4 rfl) ?_
      refine lv_bipush (v := nI 49) hx hb dX0_init_40 (by decide) ?_
      refine lv_icmp_ge (tgt := 92) hx hb dX0_init_42 (by decide) (fun c42 => ?_) (fun c42 => ?_)
      · have c42 : 49 ≤ k := (nI_leI (a := 49) (b := k) (by omega) (by omega)).mp c42
        obtain rfl : k = 49 := by omega
        obtain rfl : x1 = go_ALL := go_m_ext (fun j _ => by rw [h1 j, go_m_ALL])
        refine lv_aload_n hx hb dX0_init_92 rfl (lv_at hl 0 rfl) ?_
        refine lv_lload_n hx hb dX0_init_93 rfl (lv_at hl 1 rfl) ?_
        refine va_putF (D := D) (ci := 0) (v := .long go_ALL) (ty := .long) (C := RX0) (T := TX0) (N := 13) hx hb hts in_X0 tyX0 tyX0_ok nmX0 hown hK hP hD hS 0 rfl rfl 0 (by decide) (hts _ q37) (fun _ h9 => h9) rfl hin rfl (by decide +kernel) rfl rfl (Nat.le_of_ble_eq_true rfl) dX0_init_94 (fun H locs hP hD hS => ?_)
        have hP : va_P D go_cl ([(h0, .inr (0, [.long go_ALL, .long 0, .long 0, .long 0, .long 0, .int 0, .ref q1, .ref q2, .ref q3, .int 0, .int 0, .long 0, .long 0])), (q1, .inl (cA1, 40, .inr (.inl (fun _ => 0)))), (q2, .inl (cA2, 40, .inr (.inl (fun _ => 0)))), (q3, .inl (cA3, 40, .inl (fun _ => 0)))]) H := hP
        have hD : va_D A ([(h0, .inr (0, [.long go_ALL, .long 0, .long 0, .long 0, .long 0, .int 0, .ref q1, .ref q2, .ref q3, .int 0, .int 0, .long 0, .long 0])), (q1, .inl (cA1, 40, .inr (.inl (fun _ => 0)))), (q2, .inl (cA2, 40, .inr (.inl (fun _ => 0)))), (q3, .inl (cA3, 40, .inl (fun _ => 0)))]) := hD
        refine lv_aload_n hx hb dX0_init_97 rfl (lv_at hl 0 rfl) ?_
        refine lv_lload_n hx hb dX0_init_98 rfl (lv_at hl 1 rfl) ?_
        refine lv_lload_n hx hb dX0_init_99 rfl (lv_at hl 2 rfl) ?_
        refine lv_ldc2 hx hb hown (hts _ q36) dX0_init_100 ?_
        refine lv_lxor hx hb dX0_init_103 ?_
        refine lv_topl (fun v103 e103 => ?_)
        refine lv_land hx hb dX0_init_104 ?_
        refine lv_topl (fun v104 e104 => ?_)
        obtain rfl : v104 = go_NF := e104.trans (by rw [e103]; exact go_iI_f h3)
        refine va_putF (D := D) (ci := 0) (v := .long go_NF) (ty := .long) (C := RX0) (T := TX0) (N := 13) hx hb hts in_X0 tyX0 tyX0_ok nmX0 hown hK hP hD hS 0 rfl rfl 1 (by decide) (hts _ q38) (fun _ h9 => h9) rfl hin rfl (by decide +kernel) rfl rfl (Nat.le_of_ble_eq_true rfl) dX0_init_105 (fun H locs hP hD hS => ?_)
        have hP : va_P D go_cl ([(h0, .inr (0, [.long go_ALL, .long go_NF, .long 0, .long 0, .long 0, .int 0, .ref q1, .ref q2, .ref q3, .int 0, .int 0, .long 0, .long 0])), (q1, .inl (cA1, 40, .inr (.inl (fun _ => 0)))), (q2, .inl (cA2, 40, .inr (.inl (fun _ => 0)))), (q3, .inl (cA3, 40, .inl (fun _ => 0)))]) H := hP
        have hD : va_D A ([(h0, .inr (0, [.long go_ALL, .long go_NF, .long 0, .long 0, .long 0, .int 0, .ref q1, .ref q2, .ref q3, .int 0, .int 0, .long 0, .long 0])), (q1, .inl (cA1, 40, .inr (.inl (fun _ => 0)))), (q2, .inl (cA2, 40, .inr (.inl (fun _ => 0)))), (q3, .inl (cA3, 40, .inl (fun _ => 0)))]) := hD
        refine lv_aload_n hx hb dX0_init_108 rfl (lv_at hl 0 rfl) ?_
        refine lv_lload_n hx hb dX0_init_109 rfl (lv_at hl 1 rfl) ?_
        refine lv_lload hx hb dX0_init_110 (lv_at hl 3 rfl) ?_
        refine lv_ldc2 hx hb hown (hts _ q36) dX0_init_112 ?_
        refine lv_lxor hx hb dX0_init_115 ?_
        refine lv_topl (fun v115 e115 => ?_)
        refine lv_land hx hb dX0_init_116 ?_
        refine lv_topl (fun v116 e116 => ?_)
        obtain rfl : v116 = go_NL := e116.trans (by rw [e115]; exact go_iI_l h5)
        refine va_putF (D := D) (ci := 0) (v := .long go_NL) (ty := .long) (C := RX0) (T := TX0) (N := 13) hx hb hts in_X0 tyX0 tyX0_ok nmX0 hown hK hP hD hS 0 rfl rfl 2 (by decide) (hts _ q39) (fun _ h9 => h9) rfl hin rfl (by decide +kernel) rfl rfl (Nat.le_of_ble_eq_true rfl) dX0_init_117 (fun H locs hP hD hS => ?_)
        have hP : va_P D go_cl ([(h0, .inr (0, [.long go_ALL, .long go_NF, .long go_NL, .long 0, .long 0, .int 0, .ref q1, .ref q2, .ref q3, .int 0, .int 0, .long 0, .long 0])), (q1, .inl (cA1, 40, .inr (.inl (fun _ => 0)))), (q2, .inl (cA2, 40, .inr (.inl (fun _ => 0)))), (q3, .inl (cA3, 40, .inl (fun _ => 0)))]) H := hP
        have hD : va_D A ([(h0, .inr (0, [.long go_ALL, .long go_NF, .long go_NL, .long 0, .long 0, .int 0, .ref q1, .ref q2, .ref q3, .int 0, .int 0, .long 0, .long 0])), (q1, .inl (cA1, 40, .inr (.inl (fun _ => 0)))), (q2, .inl (cA2, 40, .inr (.inl (fun _ => 0)))), (q3, .inl (cA3, 40, .inl (fun _ => 0)))]) := hD
        exact W.vret hx hb hr (fun t ht hW => ⟨⟨(), rfl, trivial, (fun k : Nat => match k with | 0 => h0 | 1 => q1 | 2 => q2 | _ => q3), (fun k : Nat => match k with | 0 => cA1 | 1 => cA1 | 2 => cA2 | _ => cA3), rfl, by rw [ht]; exact hP, va_K.moved hW.alike hK, hD⟩, hS.F ht⟩) hS.2.2 dX0_init_120
      · have c42 : ¬ 49 ≤ k := fun h => c42 ((nI_leI (a := 49) (b := k) (by omega) (by omega)).mpr h)
        refine lv_lload_n hx hb dX0_init_45 rfl (lv_at hl 1 rfl) ?_
        refine lv_lconst (v := 1) hx hb dX0_init_46 (by decide) ?_
        refine lv_iload hx hb dX0_init_47 (lv_at hl 4 rfl) ?_
        refine lv_lshl hx hb dX0_init_49 rfl ?_
        refine lv_topl (fun v49 e49 => ?_)
        refine lv_lor hx hb dX0_init_50 ?_
        refine lv_topl (fun v50 e50 => ?_)
        refine lv_lstore_n (lv' := [(1, .long v50), (0, .ref h0), (3, .long x3), (5, .long x5), (7, .int (nI k))]) hx hb dX0_init_51 rfl hl (by decide) rfl (fun ls hl => ?_)
        refine lv_iload hx hb dX0_init_52 (lv_at hl 4 rfl) ?_
        refine lv_bipush (v := nI 7) hx hb dX0_init_54 (by decide) ?_
        refine lv_irem hx hb dX0_init_56 (by decide) ?_
        refine lv_topi (fun v56 e56 => ?_)
        obtain rfl : v56 = nI (k % 7) := e56.trans (pk_rem (by omega) (by decide) (by decide))
        refine lv_if_ne (tgt := 67) hx hb dX0_init_57 (by decide) (fun c57 => ?_) (fun c57 => ?_)
        · have c57 : ¬ (k % 7) = 0 := fun h => c57 ((nI_eq (a := (k % 7)) (b := 0) (by omega) (by omega)).mpr h)
          refine lv_iload hx hb dX0_init_67 (lv_at hl 4 rfl) ?_
          refine lv_bipush (v := nI 7) hx hb dX0_init_69 (by decide) ?_
          refine lv_irem hx hb dX0_init_71 (by decide) ?_
          refine lv_topi (fun v71 e71 => ?_)
          obtain rfl : v71 = nI (k % 7) := e71.trans (pk_rem (by omega) (by decide) (by decide))
          refine lv_bipush (v := nI 6) hx hb dX0_init_72 (by decide) ?_
          refine lv_icmp_ne (tgt := 86) hx hb dX0_init_74 (by decide) (fun c74 => ?_) (fun c74 => ?_)
          · have c74 : ¬ (k % 7) = 6 := fun h => c74 ((nI_eq (a := (k % 7)) (b := 6) (by omega) (by omega)).mpr h)
            refine lv_iinc (v := nI (k + 1)) (lv' := [(7, .int (nI (k + 1))), (1, .long v50), (0, .ref h0), (3, .long x3), (5, .long x5)]) hx hb dX0_init_86 hl (k := 4) rfl (nI_add k 1) (by decide) rfl (fun ls hl => ?_)
            refine lv_goto (tgt := 38) hx hb dX0_init_89 (by decide) ?_
            exact ih (k + 1) v50 x3 x5 (by omega) (by omega) (by rw [e50, e49]; exact go_iI_1 h1 (by omega)) (go_iI_n h3 c57) (go_iI_n h5 c74) _ _ _ hP hD hS (lv_sub hl [2, 1, 3, 4, 0] rfl)
          · have c74 : (k % 7) = 6 := (nI_eq (a := (k % 7)) (b := 6) (by omega) (by omega)).mp c74
            refine lv_lload hx hb dX0_init_77 (lv_at hl 3 rfl) ?_
            refine lv_lconst (v := 1) hx hb dX0_init_79 (by decide) ?_
            refine lv_iload hx hb dX0_init_80 (lv_at hl 4 rfl) ?_
            refine lv_lshl hx hb dX0_init_82 rfl ?_
            refine lv_topl (fun v82 e82 => ?_)
            refine lv_lor hx hb dX0_init_83 ?_
            refine lv_topl (fun v83 e83 => ?_)
            refine lv_lstore (lv' := [(5, .long v83), (1, .long v50), (0, .ref h0), (3, .long x3), (7, .int (nI k))]) hx hb dX0_init_84 hl (by decide) rfl (fun ls hl => ?_)
            refine lv_iinc (v := nI (k + 1)) (lv' := [(7, .int (nI (k + 1))), (5, .long v83), (1, .long v50), (0, .ref h0), (3, .long x3)]) hx hb dX0_init_86 hl (k := 4) rfl (nI_add k 1) (by decide) rfl (fun ls hl => ?_)
            refine lv_goto (tgt := 38) hx hb dX0_init_89 (by decide) ?_
            exact ih (k + 1) v50 x3 v83 (by omega) (by omega) (by rw [e50, e49]; exact go_iI_1 h1 (by omega)) (go_iI_n h3 c57) (by rw [e83, e82]; exact go_iI_y h5 (by omega) c74) _ _ _ hP hD hS (lv_sub hl [3, 2, 4, 1, 0] rfl)
        · have c57 : (k % 7) = 0 := (nI_eq (a := (k % 7)) (b := 0) (by omega) (by omega)).mp c57
          refine lv_lload_n hx hb dX0_init_60 rfl (lv_at hl 2 rfl) ?_
          refine lv_lconst (v := 1) hx hb dX0_init_61 (by decide) ?_
          refine lv_iload hx hb dX0_init_62 (lv_at hl 4 rfl) ?_
          refine lv_lshl hx hb dX0_init_64 rfl ?_
          refine lv_topl (fun v64 e64 => ?_)
          refine lv_lor hx hb dX0_init_65 ?_
          refine lv_topl (fun v65 e65 => ?_)
          refine lv_lstore_n (lv' := [(3, .long v65), (1, .long v50), (0, .ref h0), (5, .long x5), (7, .int (nI k))]) hx hb dX0_init_66 rfl hl (by decide) rfl (fun ls hl => ?_)
          refine lv_iload hx hb dX0_init_67 (lv_at hl 4 rfl) ?_
          refine lv_bipush (v := nI 7) hx hb dX0_init_69 (by decide) ?_
          refine lv_irem hx hb dX0_init_71 (by decide) ?_
          refine lv_topi (fun v71 e71 => ?_)
          obtain rfl : v71 = nI (k % 7) := e71.trans (pk_rem (by omega) (by decide) (by decide))
          refine lv_bipush (v := nI 6) hx hb dX0_init_72 (by decide) ?_
          refine lv_icmp_ne (tgt := 86) hx hb dX0_init_74 (by decide) (fun c74 => ?_) (fun c74 => ?_)
          · have c74 : ¬ (k % 7) = 6 := fun h => c74 ((nI_eq (a := (k % 7)) (b := 6) (by omega) (by omega)).mpr h)
            refine lv_iinc (v := nI (k + 1)) (lv' := [(7, .int (nI (k + 1))), (3, .long v65), (1, .long v50), (0, .ref h0), (5, .long x5)]) hx hb dX0_init_86 hl (k := 4) rfl (nI_add k 1) (by decide) rfl (fun ls hl => ?_)
            refine lv_goto (tgt := 38) hx hb dX0_init_89 (by decide) ?_
            exact ih (k + 1) v50 v65 x5 (by omega) (by omega) (by rw [e50, e49]; exact go_iI_1 h1 (by omega)) (by rw [e65, e64]; exact go_iI_y h3 (by omega) c57) (go_iI_n h5 c74) _ _ _ hP hD hS (lv_sub hl [3, 2, 1, 4, 0] rfl)
          · have c74 : (k % 7) = 6 := (nI_eq (a := (k % 7)) (b := 6) (by omega) (by omega)).mp c74
            refine lv_lload hx hb dX0_init_77 (lv_at hl 3 rfl) ?_
            refine lv_lconst (v := 1) hx hb dX0_init_79 (by decide) ?_
            refine lv_iload hx hb dX0_init_80 (lv_at hl 4 rfl) ?_
            refine lv_lshl hx hb dX0_init_82 rfl ?_
            refine lv_topl (fun v82 e82 => ?_)
            refine lv_lor hx hb dX0_init_83 ?_
            refine lv_topl (fun v83 e83 => ?_)
            refine lv_lstore (lv' := [(5, .long v83), (3, .long v65), (1, .long v50), (0, .ref h0), (7, .int (nI k))]) hx hb dX0_init_84 hl (by decide) rfl (fun ls hl => ?_)
            refine lv_iinc (v := nI (k + 1)) (lv' := [(7, .int (nI (k + 1))), (5, .long v83), (3, .long v65), (1, .long v50), (0, .ref h0)]) hx hb dX0_init_86 hl (k := 4) rfl (nI_add k 1) (by decide) rfl (fun ls hl => ?_)
            refine lv_goto (tgt := 38) hx hb dX0_init_89 (by decide) ?_
            exact ih (k + 1) v50 v65 v83 (by omega) (by omega) (by rw [e50, e49]; exact go_iI_1 h1 (by omega)) (by rw [e65, e64]; exact go_iI_y h3 (by omega) c57) (by rw [e83, e82]; exact go_iI_y h5 (by omega) c74) _ _ _ hP hD hS (lv_sub hl [4, 3, 2, 1, 0] rfl)
  exact lp38 50 0 0 0 0 (by omega) (by omega) (fun j => ⟨fun h => absurd h (go_m_0 j), fun h => absurd h (Nat.not_lt_zero j)⟩) (fun j => ⟨fun h => absurd h (go_m_0 j), fun h => absurd h.1 (Nat.not_lt_zero j)⟩) (fun j => ⟨fun h => absurd h (go_m_0 j), fun h => absurd h.1 (Nat.not_lt_zero j)⟩) _ _ _ hP hD hS (lv_sub hl [4, 3, 2, 1, 0] rfl)
def go_iX1 (D : va_G) (h0 : Nat) (A : Nat → Prop) : Array Value → State → Outcome → State → Prop := va_Qv (fun _ : Unit => True) (fun _ t => ∃ (b : Nat → Nat) (cs : Nat → ClassId) (bd : Nat → Int32), b 0 = h0 ∧ (∀ j, j < 49 → bd j = nI 2) ∧ va_P D go_cl (go_M b cs bd (fun _ => 0) (fun _ => 0) (fun _ => 0) 0 (fun _ => 0) (fun _ => 0) (fun _ => 0) (fun _ => 0)) t.heap ∧ va_K D go_cl (go_Mt cs) t ∧ va_D A (go_M b cs bd (fun _ => 0) (fun _ => 0) (fun _ => 0) 0 (fun _ => 0) (fun _ => 0) (fun _ => 0) (fun _ => 0))) A
set_option maxHeartbeats 4000000 in
set_option maxRecDepth 100000 in
theorem gX1_init {l : Launch} {D : va_G} (h0 : Nat) : ∀ sz : Nat, Met l yX1_init (ws_ yX1_init cX1_init 2 none) ({ frames := 1, cells := 8, slots := 2238, locals := 12 } : Room) (go_mP D [(h0, .inr (1, [.null, .null, .null, .null, .int 0, .null, .null, .null, .null]))] [] sz [.ref h0]) (go_iX1 D h0 (va_A [(h0, .inr (1, [.null, .null, .null, .null, .int 0, .null, .null, .null, .null]))] sz)) 8 2238 (va_A [(h0, .inr (1, [.null, .null, .null, .null, .int 0, .null, .null, .null, .null]))] sz) := by
  refine go_iMet (Qf := fun A => go_iX1 D h0 A) (by decide) (Nat.le_of_ble_eq_true rfl) ?_
  intro p e s m below meth c ls A X hin hK hP hD hA hS hl
  have hl : lv_has ls 2 [(0, .ref h0)] := hl
  have hin : meth.name = "<init>" := hin
  obtain ⟨hx, hb, hml, hr, hlocks, hown, hts⟩ := id X
  have hP : va_P D go_cl [(h0, .inr (1, [.null, .null, .null, .null, .int 0, .null, .null, .null, .null]))] s.heap := hP
  refine lv_aload_n hx hb dX1_init_0 rfl (lv_at hl 0 rfl) ?_
  refine W.objInit hx hb hown (hts _ q193) (hts _ q34) (hts _ q35) rfl (by rw [hml]; exact hl.1) rfl dX1_init_1 (Nat.le_of_ble_eq_true rfl) (Nat.le_of_ble_eq_true rfl) ?_
  refine W.eq (g2 := F0 m 4 ls []) rfl ?_
  refine lv_aload_n hx hb dX1_init_4 rfl (lv_at hl 0 rfl) ?_
  refine lv_bipush (v := nI 49) hx hb dX1_init_5 (by decide) ?_
  refine va_newa (D := D) (atype := .int) hx hb (hts _ q78) (ty := .int) rfl hK hP hD hS hA (n := nI 49) (N' := 49) (a0 := (49, .inl (fun _ => 0))) (fun _ => rfl) (by decide) (nI_clamp (by decide)) (by decide) (Nat.le_of_ble_eq_true rfl) (Nat.le_of_ble_eq_true rfl) dX1_init_7 (fun q1 cA1 H hK hP hD hS => ?_)
  have hP : va_P D go_cl ([(h0, .inr (1, [.null, .null, .null, .null, .int 0, .null, .null, .null, .null])), (q1, .inl (cA1, 49, .inl (fun _ => 0)))]) H := hP
  have hD : va_D A ([(h0, .inr (1, [.null, .null, .null, .null, .int 0, .null, .null, .null, .null])), (q1, .inl (cA1, 49, .inl (fun _ => 0)))]) := hD
  have hK : va_K D go_cl [(cA1, .int)] s := hK
  refine va_putF (D := D) (ci := 1) (v := .ref q1) (ty := .array .int) (C := RX1) (T := TX1) (N := 9) hx hb hts in_X1 tyX1 tyX1_ok nmX1 hown hK hP hD hS 0 rfl rfl 0 (by decide) (hts _ q194) (fun _ h9 => h9) rfl hin rfl (by decide +kernel) rfl rfl (Nat.le_of_ble_eq_true rfl) dX1_init_9 (fun H locs hP hD hS => ?_)
  have hP : va_P D go_cl ([(h0, .inr (1, [.ref q1, .null, .null, .null, .int 0, .null, .null, .null, .null])), (q1, .inl (cA1, 49, .inl (fun _ => 0)))]) H := hP
  have hD : va_D A ([(h0, .inr (1, [.ref q1, .null, .null, .null, .int 0, .null, .null, .null, .null])), (q1, .inl (cA1, 49, .inl (fun _ => 0)))]) := hD
  refine lv_aload_n hx hb dX1_init_12 rfl (lv_at hl 0 rfl) ?_
  refine lv_sipush (v := nI 1960) hx hb dX1_init_13 (by decide) ?_
  refine va_newa (D := D) (atype := .int) hx hb (hts _ q78) (ty := .int) rfl hK hP hD hS hA (n := nI 1960) (N' := 1960) (a0 := (1960, .inl (fun _ => 0))) (fun _ => rfl) (by decide) (nI_clamp (by decide)) (by decide) (Nat.le_of_ble_eq_true rfl) (Nat.le_of_ble_eq_true rfl) dX1_init_16 (fun q2 cA2 H hK hP hD hS => ?_)
  have hP : va_P D go_cl ([(h0, .inr (1, [.ref q1, .null, .null, .null, .int 0, .null, .null, .null, .null])), (q1, .inl (cA1, 49, .inl (fun _ => 0))), (q2, .inl (cA2, 1960, .inl (fun _ => 0)))]) H := hP
  have hD : va_D A ([(h0, .inr (1, [.ref q1, .null, .null, .null, .int 0, .null, .null, .null, .null])), (q1, .inl (cA1, 49, .inl (fun _ => 0))), (q2, .inl (cA2, 1960, .inl (fun _ => 0)))]) := hD
  have hK : va_K D go_cl [(cA1, .int), (cA2, .int)] s := hK
  refine va_putF (D := D) (ci := 1) (v := .ref q2) (ty := .array .int) (C := RX1) (T := TX1) (N := 9) hx hb hts in_X1 tyX1 tyX1_ok nmX1 hown hK hP hD hS 0 rfl rfl 1 (by decide) (hts _ q195) (fun _ h9 => h9) rfl hin rfl (by decide +kernel) rfl rfl (Nat.le_of_ble_eq_true rfl) dX1_init_18 (fun H locs hP hD hS => ?_)
  have hP : va_P D go_cl ([(h0, .inr (1, [.ref q1, .ref q2, .null, .null, .int 0, .null, .null, .null, .null])), (q1, .inl (cA1, 49, .inl (fun _ => 0))), (q2, .inl (cA2, 1960, .inl (fun _ => 0)))]) H := hP
  have hD : va_D A ([(h0, .inr (1, [.ref q1, .ref q2, .null, .null, .int 0, .null, .null, .null, .null])), (q1, .inl (cA1, 49, .inl (fun _ => 0))), (q2, .inl (cA2, 1960, .inl (fun _ => 0)))]) := hD
  refine lv_aload_n hx hb dX1_init_21 rfl (lv_at hl 0 rfl) ?_
  refine lv_bipush (v := nI 40) hx hb dX1_init_22 (by decide) ?_
  refine va_newa (D := D) (atype := .int) hx hb (hts _ q78) (ty := .int) rfl hK hP hD hS hA (n := nI 40) (N' := 40) (a0 := (40, .inl (fun _ => 0))) (fun _ => rfl) (by decide) (nI_clamp (by decide)) (by decide) (Nat.le_of_ble_eq_true rfl) (Nat.le_of_ble_eq_true rfl) dX1_init_24 (fun q3 cA3 H hK hP hD hS => ?_)
  have hP : va_P D go_cl ([(h0, .inr (1, [.ref q1, .ref q2, .null, .null, .int 0, .null, .null, .null, .null])), (q1, .inl (cA1, 49, .inl (fun _ => 0))), (q2, .inl (cA2, 1960, .inl (fun _ => 0))), (q3, .inl (cA3, 40, .inl (fun _ => 0)))]) H := hP
  have hD : va_D A ([(h0, .inr (1, [.ref q1, .ref q2, .null, .null, .int 0, .null, .null, .null, .null])), (q1, .inl (cA1, 49, .inl (fun _ => 0))), (q2, .inl (cA2, 1960, .inl (fun _ => 0))), (q3, .inl (cA3, 40, .inl (fun _ => 0)))]) := hD
  have hK : va_K D go_cl [(cA1, .int), (cA2, .int), (cA3, .int)] s := hK
  refine va_putF (D := D) (ci := 1) (v := .ref q3) (ty := .array .int) (C := RX1) (T := TX1) (N := 9) hx hb hts in_X1 tyX1 tyX1_ok nmX1 hown hK hP hD hS 0 rfl rfl 2 (by decide) (hts _ q196) (fun _ h9 => h9) rfl hin rfl (by decide +kernel) rfl rfl (Nat.le_of_ble_eq_true rfl) dX1_init_26 (fun H locs hP hD hS => ?_)
  have hP : va_P D go_cl ([(h0, .inr (1, [.ref q1, .ref q2, .ref q3, .null, .int 0, .null, .null, .null, .null])), (q1, .inl (cA1, 49, .inl (fun _ => 0))), (q2, .inl (cA2, 1960, .inl (fun _ => 0))), (q3, .inl (cA3, 40, .inl (fun _ => 0)))]) H := hP
  have hD : va_D A ([(h0, .inr (1, [.ref q1, .ref q2, .ref q3, .null, .int 0, .null, .null, .null, .null])), (q1, .inl (cA1, 49, .inl (fun _ => 0))), (q2, .inl (cA2, 1960, .inl (fun _ => 0))), (q3, .inl (cA3, 40, .inl (fun _ => 0)))]) := hD
  refine lv_aload_n hx hb dX1_init_29 rfl (lv_at hl 0 rfl) ?_
  refine lv_bipush (v := nI 40) hx hb dX1_init_30 (by decide) ?_
  refine va_newa (D := D) (atype := .int) hx hb (hts _ q78) (ty := .int) rfl hK hP hD hS hA (n := nI 40) (N' := 40) (a0 := (40, .inl (fun _ => 0))) (fun _ => rfl) (by decide) (nI_clamp (by decide)) (by decide) (Nat.le_of_ble_eq_true rfl) (Nat.le_of_ble_eq_true rfl) dX1_init_32 (fun q4 cA4 H hK hP hD hS => ?_)
  have hP : va_P D go_cl ([(h0, .inr (1, [.ref q1, .ref q2, .ref q3, .null, .int 0, .null, .null, .null, .null])), (q1, .inl (cA1, 49, .inl (fun _ => 0))), (q2, .inl (cA2, 1960, .inl (fun _ => 0))), (q3, .inl (cA3, 40, .inl (fun _ => 0))), (q4, .inl (cA4, 40, .inl (fun _ => 0)))]) H := hP
  have hD : va_D A ([(h0, .inr (1, [.ref q1, .ref q2, .ref q3, .null, .int 0, .null, .null, .null, .null])), (q1, .inl (cA1, 49, .inl (fun _ => 0))), (q2, .inl (cA2, 1960, .inl (fun _ => 0))), (q3, .inl (cA3, 40, .inl (fun _ => 0))), (q4, .inl (cA4, 40, .inl (fun _ => 0)))]) := hD
  have hK : va_K D go_cl [(cA1, .int), (cA2, .int), (cA3, .int), (cA4, .int)] s := hK
  refine va_putF (D := D) (ci := 1) (v := .ref q4) (ty := .array .int) (C := RX1) (T := TX1) (N := 9) hx hb hts in_X1 tyX1 tyX1_ok nmX1 hown hK hP hD hS 0 rfl rfl 3 (by decide) (hts _ q197) (fun _ h9 => h9) rfl hin rfl (by decide +kernel) rfl rfl (Nat.le_of_ble_eq_true rfl) dX1_init_34 (fun H locs hP hD hS => ?_)
  have hP : va_P D go_cl ([(h0, .inr (1, [.ref q1, .ref q2, .ref q3, .ref q4, .int 0, .null, .null, .null, .null])), (q1, .inl (cA1, 49, .inl (fun _ => 0))), (q2, .inl (cA2, 1960, .inl (fun _ => 0))), (q3, .inl (cA3, 40, .inl (fun _ => 0))), (q4, .inl (cA4, 40, .inl (fun _ => 0)))]) H := hP
  have hD : va_D A ([(h0, .inr (1, [.ref q1, .ref q2, .ref q3, .ref q4, .int 0, .null, .null, .null, .null])), (q1, .inl (cA1, 49, .inl (fun _ => 0))), (q2, .inl (cA2, 1960, .inl (fun _ => 0))), (q3, .inl (cA3, 40, .inl (fun _ => 0))), (q4, .inl (cA4, 40, .inl (fun _ => 0)))]) := hD
  refine lv_aload_n hx hb dX1_init_37 rfl (lv_at hl 0 rfl) ?_
  refine lv_iconst (v := nI 2) hx hb dX1_init_38 (by decide) ?_
  refine va_newa (D := D) (atype := .int) hx hb (hts _ q78) (ty := .int) rfl hK hP hD hS hA (n := nI 2) (N' := 2) (a0 := (2, .inl (fun _ => 0))) (fun _ => rfl) (by decide) (nI_clamp (by decide)) (by decide) (Nat.le_of_ble_eq_true rfl) (Nat.le_of_ble_eq_true rfl) dX1_init_39 (fun q5 cA5 H hK hP hD hS => ?_)
  have hP : va_P D go_cl ([(h0, .inr (1, [.ref q1, .ref q2, .ref q3, .ref q4, .int 0, .null, .null, .null, .null])), (q1, .inl (cA1, 49, .inl (fun _ => 0))), (q2, .inl (cA2, 1960, .inl (fun _ => 0))), (q3, .inl (cA3, 40, .inl (fun _ => 0))), (q4, .inl (cA4, 40, .inl (fun _ => 0))), (q5, .inl (cA5, 2, .inl (fun _ => 0)))]) H := hP
  have hD : va_D A ([(h0, .inr (1, [.ref q1, .ref q2, .ref q3, .ref q4, .int 0, .null, .null, .null, .null])), (q1, .inl (cA1, 49, .inl (fun _ => 0))), (q2, .inl (cA2, 1960, .inl (fun _ => 0))), (q3, .inl (cA3, 40, .inl (fun _ => 0))), (q4, .inl (cA4, 40, .inl (fun _ => 0))), (q5, .inl (cA5, 2, .inl (fun _ => 0)))]) := hD
  have hK : va_K D go_cl [(cA1, .int), (cA2, .int), (cA3, .int), (cA4, .int), (cA5, .int)] s := hK
  refine va_putF (D := D) (ci := 1) (v := .ref q5) (ty := .array .int) (C := RX1) (T := TX1) (N := 9) hx hb hts in_X1 tyX1 tyX1_ok nmX1 hown hK hP hD hS 0 rfl rfl 5 (by decide) (hts _ q199) (fun _ h9 => h9) rfl hin rfl (by decide +kernel) rfl rfl (Nat.le_of_ble_eq_true rfl) dX1_init_41 (fun H locs hP hD hS => ?_)
  have hP : va_P D go_cl ([(h0, .inr (1, [.ref q1, .ref q2, .ref q3, .ref q4, .int 0, .ref q5, .null, .null, .null])), (q1, .inl (cA1, 49, .inl (fun _ => 0))), (q2, .inl (cA2, 1960, .inl (fun _ => 0))), (q3, .inl (cA3, 40, .inl (fun _ => 0))), (q4, .inl (cA4, 40, .inl (fun _ => 0))), (q5, .inl (cA5, 2, .inl (fun _ => 0)))]) H := hP
  have hD : va_D A ([(h0, .inr (1, [.ref q1, .ref q2, .ref q3, .ref q4, .int 0, .ref q5, .null, .null, .null])), (q1, .inl (cA1, 49, .inl (fun _ => 0))), (q2, .inl (cA2, 1960, .inl (fun _ => 0))), (q3, .inl (cA3, 40, .inl (fun _ => 0))), (q4, .inl (cA4, 40, .inl (fun _ => 0))), (q5, .inl (cA5, 2, .inl (fun _ => 0)))]) := hD
  refine lv_aload_n hx hb dX1_init_44 rfl (lv_at hl 0 rfl) ?_
  refine lv_bipush (v := nI 49) hx hb dX1_init_45 (by decide) ?_
  refine va_newa (D := D) (atype := .boolean) hx hb (hts _ q222) (ty := .boolean) rfl hK hP hD hS hA (n := nI 49) (N' := 49) (a0 := (49, .inl (fun _ => 0))) (fun _ => rfl) (by decide) (nI_clamp (by decide)) (by decide) (Nat.le_of_ble_eq_true rfl) (Nat.le_of_ble_eq_true rfl) dX1_init_47 (fun q6 cA6 H hK hP hD hS => ?_)
  have hP : va_P D go_cl ([(h0, .inr (1, [.ref q1, .ref q2, .ref q3, .ref q4, .int 0, .ref q5, .null, .null, .null])), (q1, .inl (cA1, 49, .inl (fun _ => 0))), (q2, .inl (cA2, 1960, .inl (fun _ => 0))), (q3, .inl (cA3, 40, .inl (fun _ => 0))), (q4, .inl (cA4, 40, .inl (fun _ => 0))), (q5, .inl (cA5, 2, .inl (fun _ => 0))), (q6, .inl (cA6, 49, .inl (fun _ => 0)))]) H := hP
  have hD : va_D A ([(h0, .inr (1, [.ref q1, .ref q2, .ref q3, .ref q4, .int 0, .ref q5, .null, .null, .null])), (q1, .inl (cA1, 49, .inl (fun _ => 0))), (q2, .inl (cA2, 1960, .inl (fun _ => 0))), (q3, .inl (cA3, 40, .inl (fun _ => 0))), (q4, .inl (cA4, 40, .inl (fun _ => 0))), (q5, .inl (cA5, 2, .inl (fun _ => 0))), (q6, .inl (cA6, 49, .inl (fun _ => 0)))]) := hD
  have hK : va_K D go_cl [(cA1, .int), (cA2, .int), (cA3, .int), (cA4, .int), (cA5, .int), (cA6, .boolean)] s := hK
  refine va_putF (D := D) (ci := 1) (v := .ref q6) (ty := .array .boolean) (C := RX1) (T := TX1) (N := 9) hx hb hts in_X1 tyX1 tyX1_ok nmX1 hown hK hP hD hS 0 rfl rfl 6 (by decide) (hts _ q200) (fun _ h9 => h9) rfl hin rfl (by decide +kernel) rfl rfl (Nat.le_of_ble_eq_true rfl) dX1_init_49 (fun H locs hP hD hS => ?_)
  have hP : va_P D go_cl ([(h0, .inr (1, [.ref q1, .ref q2, .ref q3, .ref q4, .int 0, .ref q5, .ref q6, .null, .null])), (q1, .inl (cA1, 49, .inl (fun _ => 0))), (q2, .inl (cA2, 1960, .inl (fun _ => 0))), (q3, .inl (cA3, 40, .inl (fun _ => 0))), (q4, .inl (cA4, 40, .inl (fun _ => 0))), (q5, .inl (cA5, 2, .inl (fun _ => 0))), (q6, .inl (cA6, 49, .inl (fun _ => 0)))]) H := hP
  have hD : va_D A ([(h0, .inr (1, [.ref q1, .ref q2, .ref q3, .ref q4, .int 0, .ref q5, .ref q6, .null, .null])), (q1, .inl (cA1, 49, .inl (fun _ => 0))), (q2, .inl (cA2, 1960, .inl (fun _ => 0))), (q3, .inl (cA3, 40, .inl (fun _ => 0))), (q4, .inl (cA4, 40, .inl (fun _ => 0))), (q5, .inl (cA5, 2, .inl (fun _ => 0))), (q6, .inl (cA6, 49, .inl (fun _ => 0)))]) := hD
  refine lv_aload_n hx hb dX1_init_52 rfl (lv_at hl 0 rfl) ?_
  refine lv_bipush (v := nI 49) hx hb dX1_init_53 (by decide) ?_
  refine va_newa (D := D) (atype := .int) hx hb (hts _ q78) (ty := .int) rfl hK hP hD hS hA (n := nI 49) (N' := 49) (a0 := (49, .inl (fun _ => 0))) (fun _ => rfl) (by decide) (nI_clamp (by decide)) (by decide) (Nat.le_of_ble_eq_true rfl) (Nat.le_of_ble_eq_true rfl) dX1_init_55 (fun q7 cA7 H hK hP hD hS => ?_)
  have hP : va_P D go_cl ([(h0, .inr (1, [.ref q1, .ref q2, .ref q3, .ref q4, .int 0, .ref q5, .ref q6, .null, .null])), (q1, .inl (cA1, 49, .inl (fun _ => 0))), (q2, .inl (cA2, 1960, .inl (fun _ => 0))), (q3, .inl (cA3, 40, .inl (fun _ => 0))), (q4, .inl (cA4, 40, .inl (fun _ => 0))), (q5, .inl (cA5, 2, .inl (fun _ => 0))), (q6, .inl (cA6, 49, .inl (fun _ => 0))), (q7, .inl (cA7, 49, .inl (fun _ => 0)))]) H := hP
  have hD : va_D A ([(h0, .inr (1, [.ref q1, .ref q2, .ref q3, .ref q4, .int 0, .ref q5, .ref q6, .null, .null])), (q1, .inl (cA1, 49, .inl (fun _ => 0))), (q2, .inl (cA2, 1960, .inl (fun _ => 0))), (q3, .inl (cA3, 40, .inl (fun _ => 0))), (q4, .inl (cA4, 40, .inl (fun _ => 0))), (q5, .inl (cA5, 2, .inl (fun _ => 0))), (q6, .inl (cA6, 49, .inl (fun _ => 0))), (q7, .inl (cA7, 49, .inl (fun _ => 0)))]) := hD
  have hK : va_K D go_cl [(cA1, .int), (cA2, .int), (cA3, .int), (cA4, .int), (cA5, .int), (cA6, .boolean), (cA7, .int)] s := hK
  refine va_putF (D := D) (ci := 1) (v := .ref q7) (ty := .array .int) (C := RX1) (T := TX1) (N := 9) hx hb hts in_X1 tyX1 tyX1_ok nmX1 hown hK hP hD hS 0 rfl rfl 7 (by decide) (hts _ q201) (fun _ h9 => h9) rfl hin rfl (by decide +kernel) rfl rfl (Nat.le_of_ble_eq_true rfl) dX1_init_57 (fun H locs hP hD hS => ?_)
  have hP : va_P D go_cl ([(h0, .inr (1, [.ref q1, .ref q2, .ref q3, .ref q4, .int 0, .ref q5, .ref q6, .ref q7, .null])), (q1, .inl (cA1, 49, .inl (fun _ => 0))), (q2, .inl (cA2, 1960, .inl (fun _ => 0))), (q3, .inl (cA3, 40, .inl (fun _ => 0))), (q4, .inl (cA4, 40, .inl (fun _ => 0))), (q5, .inl (cA5, 2, .inl (fun _ => 0))), (q6, .inl (cA6, 49, .inl (fun _ => 0))), (q7, .inl (cA7, 49, .inl (fun _ => 0)))]) H := hP
  have hD : va_D A ([(h0, .inr (1, [.ref q1, .ref q2, .ref q3, .ref q4, .int 0, .ref q5, .ref q6, .ref q7, .null])), (q1, .inl (cA1, 49, .inl (fun _ => 0))), (q2, .inl (cA2, 1960, .inl (fun _ => 0))), (q3, .inl (cA3, 40, .inl (fun _ => 0))), (q4, .inl (cA4, 40, .inl (fun _ => 0))), (q5, .inl (cA5, 2, .inl (fun _ => 0))), (q6, .inl (cA6, 49, .inl (fun _ => 0))), (q7, .inl (cA7, 49, .inl (fun _ => 0)))]) := hD
  refine lv_aload_n hx hb dX1_init_60 rfl (lv_at hl 0 rfl) ?_
  refine lv_bipush (v := nI 49) hx hb dX1_init_61 (by decide) ?_
  refine va_newa (D := D) (atype := .int) hx hb (hts _ q78) (ty := .int) rfl hK hP hD hS hA (n := nI 49) (N' := 49) (a0 := (49, .inl (fun _ => 0))) (fun _ => rfl) (by decide) (nI_clamp (by decide)) (by decide) (Nat.le_of_ble_eq_true rfl) (Nat.le_of_ble_eq_true rfl) dX1_init_63 (fun q8 cA8 H hK hP hD hS => ?_)
  have hP : va_P D go_cl ([(h0, .inr (1, [.ref q1, .ref q2, .ref q3, .ref q4, .int 0, .ref q5, .ref q6, .ref q7, .null])), (q1, .inl (cA1, 49, .inl (fun _ => 0))), (q2, .inl (cA2, 1960, .inl (fun _ => 0))), (q3, .inl (cA3, 40, .inl (fun _ => 0))), (q4, .inl (cA4, 40, .inl (fun _ => 0))), (q5, .inl (cA5, 2, .inl (fun _ => 0))), (q6, .inl (cA6, 49, .inl (fun _ => 0))), (q7, .inl (cA7, 49, .inl (fun _ => 0))), (q8, .inl (cA8, 49, .inl (fun _ => 0)))]) H := hP
  have hD : va_D A ([(h0, .inr (1, [.ref q1, .ref q2, .ref q3, .ref q4, .int 0, .ref q5, .ref q6, .ref q7, .null])), (q1, .inl (cA1, 49, .inl (fun _ => 0))), (q2, .inl (cA2, 1960, .inl (fun _ => 0))), (q3, .inl (cA3, 40, .inl (fun _ => 0))), (q4, .inl (cA4, 40, .inl (fun _ => 0))), (q5, .inl (cA5, 2, .inl (fun _ => 0))), (q6, .inl (cA6, 49, .inl (fun _ => 0))), (q7, .inl (cA7, 49, .inl (fun _ => 0))), (q8, .inl (cA8, 49, .inl (fun _ => 0)))]) := hD
  have hK : va_K D go_cl [(cA1, .int), (cA2, .int), (cA3, .int), (cA4, .int), (cA5, .int), (cA6, .boolean), (cA7, .int), (cA8, .int)] s := hK
  refine va_putF (D := D) (ci := 1) (v := .ref q8) (ty := .array .int) (C := RX1) (T := TX1) (N := 9) hx hb hts in_X1 tyX1 tyX1_ok nmX1 hown hK hP hD hS 0 rfl rfl 8 (by decide) (hts _ q202) (fun _ h9 => h9) rfl hin rfl (by decide +kernel) rfl rfl (Nat.le_of_ble_eq_true rfl) dX1_init_65 (fun H locs hP hD hS => ?_)
  have hP : va_P D go_cl ([(h0, .inr (1, [.ref q1, .ref q2, .ref q3, .ref q4, .int 0, .ref q5, .ref q6, .ref q7, .ref q8])), (q1, .inl (cA1, 49, .inl (fun _ => 0))), (q2, .inl (cA2, 1960, .inl (fun _ => 0))), (q3, .inl (cA3, 40, .inl (fun _ => 0))), (q4, .inl (cA4, 40, .inl (fun _ => 0))), (q5, .inl (cA5, 2, .inl (fun _ => 0))), (q6, .inl (cA6, 49, .inl (fun _ => 0))), (q7, .inl (cA7, 49, .inl (fun _ => 0))), (q8, .inl (cA8, 49, .inl (fun _ => 0)))]) H := hP
  have hD : va_D A ([(h0, .inr (1, [.ref q1, .ref q2, .ref q3, .ref q4, .int 0, .ref q5, .ref q6, .ref q7, .ref q8])), (q1, .inl (cA1, 49, .inl (fun _ => 0))), (q2, .inl (cA2, 1960, .inl (fun _ => 0))), (q3, .inl (cA3, 40, .inl (fun _ => 0))), (q4, .inl (cA4, 40, .inl (fun _ => 0))), (q5, .inl (cA5, 2, .inl (fun _ => 0))), (q6, .inl (cA6, 49, .inl (fun _ => 0))), (q7, .inl (cA7, 49, .inl (fun _ => 0))), (q8, .inl (cA8, 49, .inl (fun _ => 0)))]) := hD
  refine lv_iconst (v := nI 0) hx hb dX1_init_68 (by decide) ?_
  refine lv_istore_n (lv' := [(1, .int (nI 0)), (0, .ref h0)]) hx hb dX1_init_69 rfl hl (by decide) rfl (fun ls hl => ?_)
  have lp70 : ∀ (n : Nat) (k : Nat) (xc1 : (Nat → Int32)), 50 ≤ k + n → k ≤ 49 → (∀ j, j < k → xc1 j = nI 2) → ∀ (H : Heap) (locs : List Loc) (ls : Array Slot), va_P D go_cl ([(h0, .inr (1, [.ref q1, .ref q2, .ref q3, .ref q4, .int 0, .ref q5, .ref q6, .ref q7, .ref q8])), (q1, .inl (cA1, 49, .inl xc1)), (q2, .inl (cA2, 1960, .inl (fun _ => 0))), (q3, .inl (cA3, 40, .inl (fun _ => 0))), (q4, .inl (cA4, 40, .inl (fun _ => 0))), (q5, .inl (cA5, 2, .inl (fun _ => 0))), (q6, .inl (cA6, 49, .inl (fun _ => 0))), (q7, .inl (cA7, 49, .inl (fun _ => 0))), (q8, .inl (cA8, 49, .inl (fun _ => 0)))]) H → va_D A ([(h0, .inr (1, [.ref q1, .ref q2, .ref q3, .ref q4, .int 0, .ref q5, .ref q6, .ref q7, .ref q8])), (q1, .inl (cA1, 49, .inl xc1)), (q2, .inl (cA2, 1960, .inl (fun _ => 0))), (q3, .inl (cA3, 40, .inl (fun _ => 0))), (q4, .inl (cA4, 40, .inl (fun _ => 0))), (q5, .inl (cA5, 2, .inl (fun _ => 0))), (q6, .inl (cA6, 49, .inl (fun _ => 0))), (q7, .inl (cA7, 49, .inl (fun _ => 0))), (q8, .inl (cA8, 49, .inl (fun _ => 0)))]) → va_S A s.heap H locs → lv_has ls 2 [(0, .ref h0), (1, .int (nI k))] → W p l e ({ frames := 1, cells := 8, slots := 2238, locals := 12 } : Room) s m ([.ref h0] : List Value).toArray below meth c H locs 8 2238 (MQ below (va_Qv (fun _ : Unit => True) (fun _ t => ∃ (b : Nat → Nat) (cs : Nat → ClassId) (bd : Nat → Int32), b 0 = h0 ∧ (∀ j, j < 49 → bd j = nI 2) ∧ va_P D go_cl (go_M b cs bd (fun _ => 0) (fun _ => 0) (fun _ => 0) 0 (fun _ => 0) (fun _ => 0) (fun _ => 0) (fun _ => 0)) t.heap ∧ va_K D go_cl (go_Mt cs) t ∧ va_D A (go_M b cs bd (fun _ => 0) (fun _ => 0) (fun _ => 0) 0 (fun _ => 0) (fun _ => 0) (fun _ => 0) (fun _ => 0))) A) ([.ref h0] : List Value).toArray s 8 2238 A) (F0 m 70 ls []) := by
    intro n
    induction n with
    | zero =>
      intro k xc1 hn hk hz
      exact absurd hn (by omega)
    | succ n ih =>
      intro k xc1 hn hk hz H locs ls hP hD hS hl
      refine lv_iload_n hx hb dX1_init_70 rfl (lv_at hl 1 rfl) ?_
      refine lv_bipush (v := nI 49) hx hb dX1_init_71 (by decide) ?_
      refine lv_icmp_ge (tgt := 89) hx hb dX1_init_73 (by decide) (fun c73 => ?_) (fun c73 => ?_)
      · have c73 : 49 ≤ k := (nI_leI (a := 49) (b := k) (by omega) (by omega)).mp c73
        exact W.vret hx hb hr (fun t ht hW => ⟨⟨(), rfl, trivial, (fun k : Nat => match k with | 0 => h0 | 1 => q1 | 2 => q2 | 3 => q3 | 4 => q4 | 5 => q5 | 6 => q6 | 7 => q7 | _ => q8), (fun k : Nat => match k with | 0 => cA1 | 1 => cA1 | 2 => cA2 | 3 => cA3 | 4 => cA4 | 5 => cA5 | 6 => cA6 | 7 => cA7 | _ => cA8), xc1, rfl, fun j hj => hz j (by omega), by rw [ht]; exact hP, va_K.moved hW.alike hK, hD⟩, hS.F ht⟩) hS.2.2 dX1_init_89
      · have c73 : ¬ 49 ≤ k := fun h => c73 ((nI_leI (a := 49) (b := k) (by omega) (by omega)).mpr h)
        refine lv_aload_n hx hb dX1_init_76 rfl (lv_at hl 0 rfl) ?_
        refine va_get (D := D) (ci := 1) (v := .ref q1) (C := RX1) (T := TX1) (N := 9) hx hb hts in_X1 hown hK hP 0 rfl rfl 0 (by decide) (hts _ q194) (fun _ h9 => h9) rfl dX1_init_77 ?_
        refine lv_iload_n hx hb dX1_init_80 rfl (lv_at hl 1 rfl) ?_
        refine lv_iconst (v := nI 2) hx hb dX1_init_81 (by decide) ?_
        refine go_ist hx hb hK hP hD hS 1 0 rfl rfl k (rfl) (by omega) (by decide) dX1_init_82 (fun c1_82 H locs ec1_82 hP hD hS => ?_)
        have hP : va_P D go_cl ([(h0, .inr (1, [.ref q1, .ref q2, .ref q3, .ref q4, .int 0, .ref q5, .ref q6, .ref q7, .ref q8])), (q1, .inl (cA1, 49, .inl c1_82)), (q2, .inl (cA2, 1960, .inl (fun _ => 0))), (q3, .inl (cA3, 40, .inl (fun _ => 0))), (q4, .inl (cA4, 40, .inl (fun _ => 0))), (q5, .inl (cA5, 2, .inl (fun _ => 0))), (q6, .inl (cA6, 49, .inl (fun _ => 0))), (q7, .inl (cA7, 49, .inl (fun _ => 0))), (q8, .inl (cA8, 49, .inl (fun _ => 0)))]) H := hP
        have hD : va_D A ([(h0, .inr (1, [.ref q1, .ref q2, .ref q3, .ref q4, .int 0, .ref q5, .ref q6, .ref q7, .ref q8])), (q1, .inl (cA1, 49, .inl c1_82)), (q2, .inl (cA2, 1960, .inl (fun _ => 0))), (q3, .inl (cA3, 40, .inl (fun _ => 0))), (q4, .inl (cA4, 40, .inl (fun _ => 0))), (q5, .inl (cA5, 2, .inl (fun _ => 0))), (q6, .inl (cA6, 49, .inl (fun _ => 0))), (q7, .inl (cA7, 49, .inl (fun _ => 0))), (q8, .inl (cA8, 49, .inl (fun _ => 0)))]) := hD
        refine lv_iinc (v := nI (k + 1)) (lv' := [(1, .int (nI (k + 1))), (0, .ref h0)]) hx hb dX1_init_83 hl (k := 1) rfl (nI_add k 1) (by decide) rfl (fun ls hl => ?_)
        refine lv_goto (tgt := 70) hx hb dX1_init_86 (by decide) ?_
        exact ih (k + 1) c1_82 (by omega) (by omega) (go_fill (g := fun _ => nI 2) hz ec1_82 rfl) _ _ _ hP hD hS (lv_sub hl [1, 0] rfl)
  exact lp70 50 0 (fun _ => 0) (by omega) (by omega) (fun j h => absurd h (Nat.not_lt_zero j)) _ _ _ hP hD hS (lv_sub hl [1, 0] rfl)
end
section
/-! the law: its loop, its entry: printed by gen/law.py; what stands around them is the skeleton of kit/laws -/
/-! THE CLAIM OUT OF ONE WALK OF THE LAW'S BODY. Your part is whole_start (and what it stands on); all else here is the same for every law, but numbers. -/
def R_law : String := "GoBoardLaw"
def lw_P (b : Addr) (xs : List Int32) (args : Array Value) (s : State) : Prop := args = #[.ref b] ∧ s.IntsAt b xs ∧ xs.length ≤ 192 ∧ (Jvm.Cond.and given_1 narrow_1).before args s = true
def lw_Q (_ : Array Value) (s : State) (o : Outcome) (t : State) : Prop := o = .returned (some (.int 1)) ∧ Framed s o t [] 600000 7290000
def lw_Z (below : List Frame) (a : Array Value) (s : State) : State → Prop := fun t => ∃ o, t.status = .running ∧ Ended t below o ∧ lw_Q a s o t
/-- the law's own end, with 1 on the stack, nothing written that was there before, its room as the claim has it -/
theorem lw_ret {p : Program} {l : Launch} {e : Env} {s : State} {m : MethodId} {below : List Frame} {meth : Method} {c : Code} {b : Nat} (hx : p.tables.exec = Jvm.exec) (hb : c.code = code) (hr : meth.sig.returnType = ret) (hlocks : meth.locks = false) {pc : Nat} {H : Heap} {ls : Array Slot} (hdg : decode code pc = .ok (.ireturn, 1)) : W p l e room_1 s m #[Value.ref b] below meth c H [] 600000 7290000 (lw_Z below #[Value.ref b] s) (F0 m pc ls [.int 1]) := by
  intro T hT X
  obtain ⟨fs, hret, hrun, hended, hW, hframe⟩ := X.leave (v := some (.int 1)) (hlocks := hlocks) (fun h => by rw [hr] at h; cases h)
  have hmeth' : T.vm.method? m = some meth := X.method'
  refine ⟨T.setFrames fs, ?_, .returned (some (.int 1)), hrun, hended, rfl, ⟨_, rfl⟩, hW, hframe⟩
  jvm_step X.here [X.here.top, hx, hb, hdg, hmeth', hr, ret, narrow_b1]
  (try refine ⟨rfl, ?_⟩); (try refine ⟨rfl, ?_⟩)
  first | (intro acts; rw [hret _ acts rfl rfl rfl]) | rw [hret _ _ rfl rfl rfl]
  exact Steps.refl _
/-- what holds at the law's entry: the machine, the code, the tables' words (any of lw_tbl by 'hts w (by decide +kernel)'), the script of L ints xs at the cell b, what the Statement gives of the start (any of its parts by flat_of_before) -/
def lw_At (p : Program) (s : State) (m : MethodId) (meth : Method) (c : Code) (b L : Nat) (xs : Nat → Int32) : Prop :=
  p.tables.exec = Jvm.exec ∧ c.code = code ∧ meth.sig.returnType = ret ∧ c.maxLocals = 4 ∧ s.vm.findClass R_law = some m.cls ∧ (∀ w ∈ lw_tbl, w.before #[Value.ref b] s = true) ∧ va_X b L xs s s.heap ∧ b < s.heap.size ∧ meth.locks = false ∧ (Jvm.Cond.and given_1 narrow_1).before #[Value.ref b] s = true
theorem go_G_at (b : Nat → Nat) (cs : Nat → ClassId) (bl wh : Int64) (cn : Int32) (ob ow : Nat → Int64) (ot : Nat → Int32) (bt wt : Int32) (tb tw : Int64) {i : Nat} (h : i < 4) : ∃ e, (go_G b cs bl wh cn ob ow ot bt wt tb tw)[i]? = some (b i, e) := by
  rcases (show i = 0 ∨ i = 1 ∨ i = 2 ∨ i = 3 by omega) with rfl | rfl | rfl | rfl <;> exact ⟨_, rfl⟩
theorem go_M_at (b : Nat → Nat) (cs : Nat → ClassId) (bd hi hf hs : Nat → Int32) (dn : Int32) (cp rc dd kp : Nat → Int32) {i : Nat} (h : i < 9) : ∃ e, (go_M b cs bd hi hf hs dn cp rc dd kp)[i]? = some (b i, e) := by
  rcases (show i = 0 ∨ i = 1 ∨ i = 2 ∨ i = 3 ∨ i = 4 ∨ i = 5 ∨ i = 6 ∨ i = 7 ∨ i = 8 by omega) with rfl | rfl | rfl | rfl | rfl | rfl | rfl | rfl | rfl <;> exact ⟨_, rfl⟩
theorem go_G_of {b : Nat → Nat} {cs : Nat → ClassId} {bl wh : Int64} {cn : Int32} {ob ow : Nat → Int64} {ot : Nat → Int32} {bt wt : Int32} {tb tw : Int64} {k : Nat} {q : Nat × va_E} (h : (go_G b cs bl wh cn ob ow ot bt wt tb tw)[k]? = some q) : k < 4 ∧ q.1 = b k := by
  have hk : k < 4 := (List.getElem?_eq_some_iff.mp h).1
  obtain ⟨e, he⟩ := go_G_at b cs bl wh cn ob ow ot bt wt tb tw hk
  rw [he] at h
  exact ⟨hk, by rw [← Option.some.inj h]⟩
theorem go_M_of {b : Nat → Nat} {cs : Nat → ClassId} {bd hi hf hs : Nat → Int32} {dn : Int32} {cp rc dd kp : Nat → Int32} {k : Nat} {q : Nat × va_E} (h : (go_M b cs bd hi hf hs dn cp rc dd kp)[k]? = some q) : k < 9 ∧ q.1 = b k := by
  have hk : k < 9 := (List.getElem?_eq_some_iff.mp h).1
  obtain ⟨e, he⟩ := go_M_at b cs bd hi hf hs dn cp rc dd kp hk
  rw [he] at h
  exact ⟨hk, by rw [← Option.some.inj h]⟩
/-- the two worlds are apart -/
theorem go_apG {bG bM : Nat → Nat} {cG cM : Nat → ClassId} {bl wh : Int64} {cn : Int32} {ob ow : Nat → Int64} {ot : Nat → Int32} {bt wt : Int32} {tb tw : Int64} {bd hi hf hs : Nat → Int32} {dn : Int32} {cp rc dd kp : Nat → Int32} (hap : ∀ i j, i < 4 → j < 9 → bG i ≠ bM j) : ∀ (k : Nat) (q : Nat × va_E), (go_M bM cM bd hi hf hs dn cp rc dd kp)[k]? = some q → ∀ (k2 : Nat) (q2 : Nat × va_E), (go_G bG cG bl wh cn ob ow ot bt wt tb tw)[k2]? = some q2 → q.1 ≠ q2.1 := by
  intro k q h k2 q2 h2
  obtain ⟨a1, a2⟩ := go_M_of h
  obtain ⟨b1, b2⟩ := go_G_of h2
  rw [a2, b2]
  exact fun e => hap k2 k b1 a1 e.symm
theorem go_apM {bG bM : Nat → Nat} {cG cM : Nat → ClassId} {bl wh : Int64} {cn : Int32} {ob ow : Nat → Int64} {ot : Nat → Int32} {bt wt : Int32} {tb tw : Int64} {bd hi hf hs : Nat → Int32} {dn : Int32} {cp rc dd kp : Nat → Int32} (hap : ∀ i j, i < 4 → j < 9 → bG i ≠ bM j) : ∀ (k : Nat) (q : Nat × va_E), (go_G bG cG bl wh cn ob ow ot bt wt tb tw)[k]? = some q → ∀ (k2 : Nat) (q2 : Nat × va_E), (go_M bM cM bd hi hf hs dn cp rc dd kp)[k2]? = some q2 → q.1 ≠ q2.1 := by
  intro k q h k2 q2 h2
  obtain ⟨a1, a2⟩ := go_G_of h
  obtain ⟨b1, b2⟩ := go_M_of h2
  rw [a2, b2]
  exact hap k k2 a1 b1
theorem go_lawc {L i : Nat} (hL : L ≤ 192) (hi : i ≤ L) (h : ¬ Int32.ofNat L - nI 3 < nI i) : i + 3 ≤ L := by
  have h1 : (nI L - nI 3).toInt = (L : Int) - (3 : Nat) := pk_sub_toInt (by omega) (by decide)
  have h2 : ¬ (nI L - nI 3) < nI i := h
  rw [Int32.lt_iff_toInt_lt, h1, nI_toInt (by omega)] at h2
  omega
set_option maxHeartbeats 8000000 in
set_option maxRecDepth 100000 in
/-- the law's loop, at its head -/
theorem go_law {p : Program} {l : Launch} {e : Env} {s : State} {m : MethodId} {below : List Frame} {meth : Method} {c : Code} {D : va_G} {b L : Nat} {xs : Nat → Int32} {bG bM : Nat → Nat} {cG cM : Nat → ClassId} (hL : L ≤ 192) (C0 : lw_At p s m meth c b L xs) (hap : ∀ i j, i < 4 → j < 9 → bG i ≠ bM j) (hKG : va_K D go_cl (go_Gt cG) s) (hKM : va_K D go_cl (go_Mt cM) s) (A : Nat → Prop) (eA : A = fun q : Nat => s.heap.size ≤ q) :
    ∀ (n i : Nat) (a : go_A) (bl : Int64) (wh : Int64) (cn : Int32) (ob : (Nat → Int64)) (ow : (Nat → Int64)) (ot : (Nat → Int32)) (bt : Int32) (wt : Int32) (tb : Int64) (tw : Int64) (bd : (Nat → Int32)) (hi : (Nat → Int32)) (hf : (Nat → Int32)) (hs : (Nat → Int32)) (dn : Int32) (cp : (Nat → Int32)) (rc : (Nat → Int32)) (dd : (Nat → Int32)) (kp : (Nat → Int32)), L + 1 ≤ i + n → i ≤ L → go_AI a → go_GI a bl wh cn ob ow ot bt wt → go_MI a bd hi hf hs dn cp → ∀ (H : Heap) (locs : List Loc) (ls : Array Slot), va_P D go_cl (go_G bG cG bl wh cn ob ow ot bt wt tb tw) H → va_D A (go_G bG cG bl wh cn ob ow ot bt wt tb tw) → va_P D go_cl (go_M bM cM bd hi hf hs dn cp rc dd kp) H → va_D A (go_M bM cM bd hi hf hs dn cp rc dd kp) → va_S A s.heap H locs → lv_has ls 4 [(0, .ref b), (1, .ref (bG 0)), (2, .ref (bM 0)), (3, .int (nI i))] → W p l e room_1 s m #[Value.ref b] below meth c H locs 13 2380 (lw_Z below #[Value.ref b] s) (F0 m 18 ls []) := by
  obtain ⟨hx, hb, hr, hml, hown, hts0, hX, hbl, hlocks, hgv⟩ := C0
  have hts : ∀ w ∈ lw_all, w.before #[Value.ref b] s = true := fun w h => hts0 w (lw_all_tbl h)
  have X : go_Cx p s m #[Value.ref b] meth c code 4 ret R_law := ⟨hx, hb, hml, hr, hlocks, hown, hts⟩
  have hA : ∀ q : Nat, s.heap.size ≤ q → A q := fun q h => by rw [eA]; exact h
  have hbA : ¬ A b := by rw [eA]; exact Nat.not_le.mpr hbl
  intro n
  induction n with
  | zero =>
    intro i a bl wh cn ob ow ot bt wt tb tw bd hi hf hs dn cp rc dd kp hn hi9
    exact absurd hn (by omega)
  | succ n ih =>
    intro i a bl wh cn ob ow ot bt wt tb tw bd hi hf hs dn cp rc dd kp hn hi9 hI hG hM H locs ls hPG hDG hPM hDM hS hl
    refine lv_iload_n hx hb dL_law_18 rfl (lv_at hl 3 rfl) ?_
    refine lv_aload_n hx hb dL_law_19 rfl (lv_at hl 0 rfl) ?_
    refine va_slen hx hb hX hbl hbA hS dL_law_20 ?_
    refine lv_iconst (v := nI 3) hx hb dL_law_21 (by decide) ?_
    refine lv_isub hx hb dL_law_22 ?_
    refine lv_topi (fun v22 e22 => ?_)
    refine lv_icmp_gt (tgt := 459) hx hb dL_law_23 (by decide) (fun c23 => ?_) (fun c23 => ?_)
    · refine lv_iconst (v := 1) hx hb dL_law_459 (by decide) ?_
      refine va_forget (fun q hq => by have h := hS.2.2 q hq; rw [eA] at h; exact h) ?_
      refine W.widen (k := 600000) (n := 7290000) (by decide) (by decide) ?_
      exact lw_ret hx hb hr hlocks dL_law_460
    · have hi3 : i + 3 ≤ L := go_lawc hL hi9 (by rw [← e22]; exact c23)
      refine lv_aload_n hx hb dL_law_26 rfl (lv_at hl 0 rfl) ?_
      refine lv_iload_n hx hb dL_law_27 rfl (lv_at hl 3 rfl) ?_
      refine va_sld hx hb hX hbl hbA hS (vp_in_nI (show i < L by omega) (by omega)) dL_law_28 ?_
      refine lv_bipush (v := nI 15) hx hb dL_law_29 (by decide) ?_
      refine lv_iand hx hb dL_law_31 ?_
      refine lv_topi (fun v31 e31 => ?_)
      obtain ⟨j9, hj9, ej9⟩ := pk_andE (xs (nI i).toNatClampNeg) (m := nI 15) 4 (by decide)
      obtain rfl : v31 = nI j9 := e31.trans ej9
      have hj9 : j9 < 16 := hj9
      rcases (show j9 = 0 ∨ j9 = 1 ∨ j9 = 2 ∨ j9 = 3 ∨ j9 = 4 ∨ j9 = 5 ∨ j9 = 6 ∨ j9 = 7 ∨ j9 = 8 ∨ j9 = 9 ∨ j9 = 10 ∨ j9 = 11 ∨ j9 = 12 ∨ j9 = 13 ∨ j9 = 14 ∨ j9 = 15 by omega) with rfl | rfl | rfl | rfl | rfl | rfl | rfl | rfl | rfl | rfl | rfl | rfl | rfl | rfl | rfl | rfl
      · refine lv_tableIn (off := 76) (tgt := 108) hx hb dL_law_32 (by decide) (by decide) (by decide) (by decide) ?_
        refine lv_aload_n hx hb dL_law_108 rfl (lv_at hl 1 rfl) ?_
        refine lv_aload_n hx hb dL_law_109 rfl (lv_at hl 0 rfl) ?_
        refine lv_iload_n hx hb dL_law_110 rfl (lv_at hl 3 rfl) ?_
        refine lv_iconst (v := nI 1) hx hb dL_law_111 (by decide) ?_
        refine lv_iadd hx hb dL_law_112 ?_
        refine lv_topi (fun v112 e112 => ?_)
        obtain rfl : v112 = nI (i + 1) := e112.trans (nI_add i 1)
        refine va_sld hx hb hX hbl hbA hS (vp_in_nI (show i + 1 < L by omega) (by omega)) dL_law_113 ?_
        refine lv_aload_n hx hb dL_law_114 rfl (lv_at hl 0 rfl) ?_
        refine lv_iload_n hx hb dL_law_115 rfl (lv_at hl 3 rfl) ?_
        refine lv_iconst (v := nI 2) hx hb dL_law_116 (by decide) ?_
        refine lv_iadd hx hb dL_law_117 ?_
        refine lv_topi (fun v117 e117 => ?_)
        obtain rfl : v117 = nI (i + 2) := e117.trans (nI_add i 2)
        refine va_sld hx hb hX hbl hbA hS (vp_in_nI (show i + 2 < L by omega) (by omega)) dL_law_118 ?_
        refine go_mcI (As := [.int (xs (nI (i + 1)).toNatClampNeg), .int (xs (nI (i + 2)).toNatClampNeg)]) (rest := []) X (gX0_play (a := a) (xs (nI (i + 1)).toNatClampNeg) (xs (nI (i + 2)).toNatClampNeg) hG hI) (cwV 2 hts (lw_V q79 q80 q81 q26 q82) rfl rfl rfl (by decide +kernel) ⟨Nat.le_of_ble_eq_true rfl, Nat.le_of_ble_eq_true rfl⟩) hKG hPG hDG hA (va_recv hKG hPG (ci := 0) (q0 := 0) rfl rfl) rfl rfl hl.1 (Nat.le_of_ble_eq_true rfl) dL_law_119 ⟨Nat.le_of_ble_eq_true rfl, Nat.le_of_ble_eq_true rfl⟩ hS (fun r119 u119 H1 locs p119 hPG hDG hS hk => ?_)
        have hPM := hk _ hPM (go_apG hap)
        clear hk
        obtain ⟨bl_119, wh_119, cn_119, ob_119, ow_119, ot_119, bt_119, wt_119, tb_119, tw_119⟩ := u119
        generalize H1 = H at hPG hPM hS ⊢
        have hPG : va_P D go_cl (go_G bG cG bl_119 wh_119 cn_119 ob_119 ow_119 ot_119 bt_119 wt_119 tb_119 tw_119) H := hPG
        have hDG : va_D A (go_G bG cG bl_119 wh_119 cn_119 ob_119 ow_119 ot_119 bt_119 wt_119 tb_119 tw_119) := hDG
        try dsimp only at p119
        refine lv_aload_n hx hb dL_law_122 rfl (lv_at hl 2 rfl) ?_
        refine lv_aload_n hx hb dL_law_123 rfl (lv_at hl 0 rfl) ?_
        refine lv_iload_n hx hb dL_law_124 rfl (lv_at hl 3 rfl) ?_
        refine lv_iconst (v := nI 1) hx hb dL_law_125 (by decide) ?_
        refine lv_iadd hx hb dL_law_126 ?_
        refine lv_topi (fun v126 e126 => ?_)
        obtain rfl : v126 = nI (i + 1) := e126.trans (nI_add i 1)
        refine va_sld hx hb hX hbl hbA hS (vp_in_nI (show i + 1 < L by omega) (by omega)) dL_law_127 ?_
        refine lv_aload_n hx hb dL_law_128 rfl (lv_at hl 0 rfl) ?_
        refine lv_iload_n hx hb dL_law_129 rfl (lv_at hl 3 rfl) ?_
        refine lv_iconst (v := nI 2) hx hb dL_law_130 (by decide) ?_
        refine lv_iadd hx hb dL_law_131 ?_
        refine lv_topi (fun v131 e131 => ?_)
        obtain rfl : v131 = nI (i + 2) := e131.trans (nI_add i 2)
        refine va_sld hx hb hX hbl hbA hS (vp_in_nI (show i + 2 < L by omega) (by omega)) dL_law_132 ?_
        refine go_mcI (As := [.int (xs (nI (i + 1)).toNatClampNeg), .int (xs (nI (i + 2)).toNatClampNeg)]) (rest := [.int r119]) X (gX1_play (a := a) (xs (nI (i + 1)).toNatClampNeg) (xs (nI (i + 2)).toNatClampNeg) hM hI) (cwV 2 hts (lw_V q223 q224 q225 q27 q226) rfl rfl rfl (by decide +kernel) ⟨Nat.le_of_ble_eq_true rfl, Nat.le_of_ble_eq_true rfl⟩) hKM hPM hDM hA (va_recv hKM hPM (ci := 1) (q0 := 0) rfl rfl) rfl rfl hl.1 (Nat.le_of_ble_eq_true rfl) dL_law_133 ⟨Nat.le_of_ble_eq_true rfl, Nat.le_of_ble_eq_true rfl⟩ hS (fun r133 u133 H1 locs p133 hPM hDM hS hk => ?_)
        have hPG := hk _ hPG (go_apM hap)
        clear hk
        obtain ⟨bd_133, hi_133, hf_133, hs_133, dn_133, cp_133, rc_133, dd_133, kp_133⟩ := u133
        generalize H1 = H at hPG hPM hS ⊢
        have hPM : va_P D go_cl (go_M bM cM bd_133 hi_133 hf_133 hs_133 dn_133 cp_133 rc_133 dd_133 kp_133) H := hPM
        have hDM : va_D A (go_M bM cM bd_133 hi_133 hf_133 hs_133 dn_133 cp_133 rc_133 dd_133 kp_133) := hDM
        try dsimp only at p133
        refine lv_icmp_eq (tgt := 453) hx hb dL_law_136 (by decide) (fun c136 => ?_) (fun c136 => ?_)
        · refine lv_iinc (v := nI (i + 3)) (lv' := [(3, .int (nI (i + 3))), (0, .ref b), (1, .ref (bG 0)), (2, .ref (bM 0))]) hx hb dL_law_453 hl (k := 3) rfl (nI_add i 3) (by decide) rfl (fun ls hl => ?_)
          refine lv_goto (tgt := 18) hx hb dL_law_456 (by decide) ?_
          exact ih (i + 3) (go_sPlay a (xs (nI (i + 1)).toNatClampNeg) (xs (nI (i + 2)).toNatClampNeg)) bl_119 wh_119 cn_119 ob_119 ow_119 ot_119 bt_119 wt_119 tb_119 tw_119 bd_133 hi_133 hf_133 hs_133 dn_133 cp_133 rc_133 dd_133 kp_133 (by omega) (by omega) (go_AI_play hI) p119.2 p133.2 _ _ _ hPG hDG hPM hDM hS (lv_sub hl [1, 2, 3, 0] rfl)
        · exact absurd (p119.1.trans p133.1.symm) c136
      · refine lv_tableIn (off := 109) (tgt := 141) hx hb dL_law_32 (by decide) (by decide) (by decide) (by decide) ?_
        refine lv_aload_n hx hb dL_law_141 rfl (lv_at hl 1 rfl) ?_
        refine go_mcI (As := []) (rest := []) X (gX0_pass (a := a)  hG hI) (cwV 0 hts (lw_V q119 q120 q121 q26 q122) rfl rfl rfl (by decide +kernel) ⟨Nat.le_of_ble_eq_true rfl, Nat.le_of_ble_eq_true rfl⟩) hKG hPG hDG hA (va_recv hKG hPG (ci := 0) (q0 := 0) rfl rfl) rfl rfl hl.1 (Nat.le_of_ble_eq_true rfl) dL_law_142 ⟨Nat.le_of_ble_eq_true rfl, Nat.le_of_ble_eq_true rfl⟩ hS (fun r142 u142 H1 locs p142 hPG hDG hS hk => ?_)
        have hPM := hk _ hPM (go_apG hap)
        clear hk
        obtain ⟨cn_142, ob_142, ow_142, ot_142⟩ := u142
        generalize H1 = H at hPG hPM hS ⊢
        have hPG : va_P D go_cl (go_G bG cG bl wh cn_142 ob_142 ow_142 ot_142 bt wt tb tw) H := hPG
        have hDG : va_D A (go_G bG cG bl wh cn_142 ob_142 ow_142 ot_142 bt wt tb tw) := hDG
        try dsimp only at p142
        refine lv_aload_n hx hb dL_law_145 rfl (lv_at hl 2 rfl) ?_
        refine go_mcI (As := []) (rest := [.int r142]) X (gX1_pass (a := a)  hM hI) (cwV 0 hts (lw_V q271 q272 q273 q27 q274) rfl rfl rfl (by decide +kernel) ⟨Nat.le_of_ble_eq_true rfl, Nat.le_of_ble_eq_true rfl⟩) hKM hPM hDM hA (va_recv hKM hPM (ci := 1) (q0 := 0) rfl rfl) rfl rfl hl.1 (Nat.le_of_ble_eq_true rfl) dL_law_146 ⟨Nat.le_of_ble_eq_true rfl, Nat.le_of_ble_eq_true rfl⟩ hS (fun r146 u146 H1 locs p146 hPM hDM hS hk => ?_)
        have hPG := hk _ hPG (go_apM hap)
        clear hk
        obtain ⟨hi_146, hf_146, hs_146, dn_146, kp_146⟩ := u146
        generalize H1 = H at hPG hPM hS ⊢
        have hPM : va_P D go_cl (go_M bM cM bd hi_146 hf_146 hs_146 dn_146 cp rc dd kp_146) H := hPM
        have hDM : va_D A (go_M bM cM bd hi_146 hf_146 hs_146 dn_146 cp rc dd kp_146) := hDM
        try dsimp only at p146
        refine lv_icmp_eq (tgt := 453) hx hb dL_law_149 (by decide) (fun c149 => ?_) (fun c149 => ?_)
        · refine lv_iinc (v := nI (i + 3)) (lv' := [(3, .int (nI (i + 3))), (0, .ref b), (1, .ref (bG 0)), (2, .ref (bM 0))]) hx hb dL_law_453 hl (k := 3) rfl (nI_add i 3) (by decide) rfl (fun ls hl => ?_)
          refine lv_goto (tgt := 18) hx hb dL_law_456 (by decide) ?_
          exact ih (i + 3) (go_sPass a) bl wh cn_142 ob_142 ow_142 ot_142 bt wt tb tw bd hi_146 hf_146 hs_146 dn_146 cp rc dd kp_146 (by omega) (by omega) (go_AI_pass hI) p142.2 p146.2 _ _ _ hPG hDG hPM hDM hS (lv_sub hl [1, 2, 3, 0] rfl)
        · exact absurd (p142.1.trans p146.1.symm) c149
      · refine lv_tableIn (off := 122) (tgt := 154) hx hb dL_law_32 (by decide) (by decide) (by decide) (by decide) ?_
        refine lv_aload_n hx hb dL_law_154 rfl (lv_at hl 1 rfl) ?_
        refine go_mcI (As := []) (rest := []) X (gX0_undo (a := a)  hG hI) (cwV 0 hts (lw_V q123 q124 q125 q26 q126) rfl rfl rfl (by decide +kernel) ⟨Nat.le_of_ble_eq_true rfl, Nat.le_of_ble_eq_true rfl⟩) hKG hPG hDG hA (va_recv hKG hPG (ci := 0) (q0 := 0) rfl rfl) rfl rfl hl.1 (Nat.le_of_ble_eq_true rfl) dL_law_155 ⟨Nat.le_of_ble_eq_true rfl, Nat.le_of_ble_eq_true rfl⟩ hS (fun r155 u155 H1 locs p155 hPG hDG hS hk => ?_)
        have hPM := hk _ hPM (go_apG hap)
        clear hk
        obtain ⟨bl_155, wh_155, cn_155, bt_155, wt_155⟩ := u155
        generalize H1 = H at hPG hPM hS ⊢
        have hPG : va_P D go_cl (go_G bG cG bl_155 wh_155 cn_155 ob ow ot bt_155 wt_155 tb tw) H := hPG
        have hDG : va_D A (go_G bG cG bl_155 wh_155 cn_155 ob ow ot bt_155 wt_155 tb tw) := hDG
        try dsimp only at p155
        refine lv_aload_n hx hb dL_law_158 rfl (lv_at hl 2 rfl) ?_
        refine go_mcI (As := []) (rest := [.int r155]) X (gX1_undo (a := a)  hM hI) (cwV 0 hts (lw_V q275 q276 q277 q27 q278) rfl rfl rfl (by decide +kernel) ⟨Nat.le_of_ble_eq_true rfl, Nat.le_of_ble_eq_true rfl⟩) hKM hPM hDM hA (va_recv hKM hPM (ci := 1) (q0 := 0) rfl rfl) rfl rfl hl.1 (Nat.le_of_ble_eq_true rfl) dL_law_159 ⟨Nat.le_of_ble_eq_true rfl, Nat.le_of_ble_eq_true rfl⟩ hS (fun r159 u159 H1 locs p159 hPM hDM hS hk => ?_)
        have hPG := hk _ hPG (go_apM hap)
        clear hk
        obtain ⟨bd_159, dn_159, cp_159⟩ := u159
        generalize H1 = H at hPG hPM hS ⊢
        have hPM : va_P D go_cl (go_M bM cM bd_159 hi hf hs dn_159 cp_159 rc dd kp) H := hPM
        have hDM : va_D A (go_M bM cM bd_159 hi hf hs dn_159 cp_159 rc dd kp) := hDM
        try dsimp only at p159
        refine lv_icmp_eq (tgt := 453) hx hb dL_law_162 (by decide) (fun c162 => ?_) (fun c162 => ?_)
        · refine lv_iinc (v := nI (i + 3)) (lv' := [(3, .int (nI (i + 3))), (0, .ref b), (1, .ref (bG 0)), (2, .ref (bM 0))]) hx hb dL_law_453 hl (k := 3) rfl (nI_add i 3) (by decide) rfl (fun ls hl => ?_)
          refine lv_goto (tgt := 18) hx hb dL_law_456 (by decide) ?_
          exact ih (i + 3) (go_sUndo a) bl_155 wh_155 cn_155 ob ow ot bt_155 wt_155 tb tw bd_159 hi hf hs dn_159 cp_159 rc dd kp (by omega) (by omega) (go_AI_undo hI) p155.2 p159.2 _ _ _ hPG hDG hPM hDM hS (lv_sub hl [1, 2, 3, 0] rfl)
        · exact absurd (p155.1.trans p159.1.symm) c162
      · refine lv_tableIn (off := 135) (tgt := 167) hx hb dL_law_32 (by decide) (by decide) (by decide) (by decide) ?_
        refine lv_aload_n hx hb dL_law_167 rfl (lv_at hl 1 rfl) ?_
        refine lv_aload_n hx hb dL_law_168 rfl (lv_at hl 0 rfl) ?_
        refine lv_iload_n hx hb dL_law_169 rfl (lv_at hl 3 rfl) ?_
        refine lv_iconst (v := nI 1) hx hb dL_law_170 (by decide) ?_
        refine lv_iadd hx hb dL_law_171 ?_
        refine lv_topi (fun v171 e171 => ?_)
        obtain rfl : v171 = nI (i + 1) := e171.trans (nI_add i 1)
        refine va_sld hx hb hX hbl hbA hS (vp_in_nI (show i + 1 < L by omega) (by omega)) dL_law_172 ?_
        refine lv_aload_n hx hb dL_law_173 rfl (lv_at hl 0 rfl) ?_
        refine lv_iload_n hx hb dL_law_174 rfl (lv_at hl 3 rfl) ?_
        refine lv_iconst (v := nI 2) hx hb dL_law_175 (by decide) ?_
        refine lv_iadd hx hb dL_law_176 ?_
        refine lv_topi (fun v176 e176 => ?_)
        obtain rfl : v176 = nI (i + 2) := e176.trans (nI_add i 2)
        refine va_sld hx hb hX hbl hbA hS (vp_in_nI (show i + 2 < L by omega) (by omega)) dL_law_177 ?_
        refine go_mcI (As := [.int (xs (nI (i + 1)).toNatClampNeg), .int (xs (nI (i + 2)).toNatClampNeg)]) (rest := []) X (gX0_set (a := a) (xs (nI (i + 1)).toNatClampNeg) (xs (nI (i + 2)).toNatClampNeg) hG hI) (cwV 2 hts (lw_V q127 q128 q129 q26 q130) rfl rfl rfl (by decide +kernel) ⟨Nat.le_of_ble_eq_true rfl, Nat.le_of_ble_eq_true rfl⟩) hKG hPG hDG hA (va_recv hKG hPG (ci := 0) (q0 := 0) rfl rfl) rfl rfl hl.1 (Nat.le_of_ble_eq_true rfl) dL_law_178 ⟨Nat.le_of_ble_eq_true rfl, Nat.le_of_ble_eq_true rfl⟩ hS (fun r178 u178 H1 locs p178 hPG hDG hS hk => ?_)
        have hPM := hk _ hPM (go_apG hap)
        clear hk
        obtain ⟨bl_178, wh_178, cn_178, bt_178, wt_178⟩ := u178
        generalize H1 = H at hPG hPM hS ⊢
        have hPG : va_P D go_cl (go_G bG cG bl_178 wh_178 cn_178 ob ow ot bt_178 wt_178 tb tw) H := hPG
        have hDG : va_D A (go_G bG cG bl_178 wh_178 cn_178 ob ow ot bt_178 wt_178 tb tw) := hDG
        try dsimp only at p178
        refine lv_aload_n hx hb dL_law_181 rfl (lv_at hl 2 rfl) ?_
        refine lv_aload_n hx hb dL_law_182 rfl (lv_at hl 0 rfl) ?_
        refine lv_iload_n hx hb dL_law_183 rfl (lv_at hl 3 rfl) ?_
        refine lv_iconst (v := nI 1) hx hb dL_law_184 (by decide) ?_
        refine lv_iadd hx hb dL_law_185 ?_
        refine lv_topi (fun v185 e185 => ?_)
        obtain rfl : v185 = nI (i + 1) := e185.trans (nI_add i 1)
        refine va_sld hx hb hX hbl hbA hS (vp_in_nI (show i + 1 < L by omega) (by omega)) dL_law_186 ?_
        refine lv_aload_n hx hb dL_law_187 rfl (lv_at hl 0 rfl) ?_
        refine lv_iload_n hx hb dL_law_188 rfl (lv_at hl 3 rfl) ?_
        refine lv_iconst (v := nI 2) hx hb dL_law_189 (by decide) ?_
        refine lv_iadd hx hb dL_law_190 ?_
        refine lv_topi (fun v190 e190 => ?_)
        obtain rfl : v190 = nI (i + 2) := e190.trans (nI_add i 2)
        refine va_sld hx hb hX hbl hbA hS (vp_in_nI (show i + 2 < L by omega) (by omega)) dL_law_191 ?_
        refine go_mcI (As := [.int (xs (nI (i + 1)).toNatClampNeg), .int (xs (nI (i + 2)).toNatClampNeg)]) (rest := [.int r178]) X (gX1_set (a := a) (xs (nI (i + 1)).toNatClampNeg) (xs (nI (i + 2)).toNatClampNeg) hM hI) (cwV 2 hts (lw_V q279 q280 q281 q27 q282) rfl rfl rfl (by decide +kernel) ⟨Nat.le_of_ble_eq_true rfl, Nat.le_of_ble_eq_true rfl⟩) hKM hPM hDM hA (va_recv hKM hPM (ci := 1) (q0 := 0) rfl rfl) rfl rfl hl.1 (Nat.le_of_ble_eq_true rfl) dL_law_192 ⟨Nat.le_of_ble_eq_true rfl, Nat.le_of_ble_eq_true rfl⟩ hS (fun r192 u192 H1 locs p192 hPM hDM hS hk => ?_)
        have hPG := hk _ hPG (go_apM hap)
        clear hk
        obtain ⟨bd_192, dn_192, cp_192⟩ := u192
        generalize H1 = H at hPG hPM hS ⊢
        have hPM : va_P D go_cl (go_M bM cM bd_192 hi hf hs dn_192 cp_192 rc dd kp) H := hPM
        have hDM : va_D A (go_M bM cM bd_192 hi hf hs dn_192 cp_192 rc dd kp) := hDM
        try dsimp only at p192
        refine lv_icmp_eq (tgt := 453) hx hb dL_law_195 (by decide) (fun c195 => ?_) (fun c195 => ?_)
        · refine lv_iinc (v := nI (i + 3)) (lv' := [(3, .int (nI (i + 3))), (0, .ref b), (1, .ref (bG 0)), (2, .ref (bM 0))]) hx hb dL_law_453 hl (k := 3) rfl (nI_add i 3) (by decide) rfl (fun ls hl => ?_)
          refine lv_goto (tgt := 18) hx hb dL_law_456 (by decide) ?_
          exact ih (i + 3) (go_sSet a (xs (nI (i + 1)).toNatClampNeg) (xs (nI (i + 2)).toNatClampNeg)) bl_178 wh_178 cn_178 ob ow ot bt_178 wt_178 tb tw bd_192 hi hf hs dn_192 cp_192 rc dd kp (by omega) (by omega) (go_AI_set hI) p178.2 p192.2 _ _ _ hPG hDG hPM hDM hS (lv_sub hl [1, 2, 3, 0] rfl)
        · exact absurd (p178.1.trans p192.1.symm) c195
      · refine lv_tableIn (off := 168) (tgt := 200) hx hb dL_law_32 (by decide) (by decide) (by decide) (by decide) ?_
        refine lv_aload_n hx hb dL_law_200 rfl (lv_at hl 1 rfl) ?_
        refine lv_aload_n hx hb dL_law_201 rfl (lv_at hl 0 rfl) ?_
        refine lv_iload_n hx hb dL_law_202 rfl (lv_at hl 3 rfl) ?_
        refine lv_iconst (v := nI 1) hx hb dL_law_203 (by decide) ?_
        refine lv_iadd hx hb dL_law_204 ?_
        refine lv_topi (fun v204 e204 => ?_)
        obtain rfl : v204 = nI (i + 1) := e204.trans (nI_add i 1)
        refine va_sld hx hb hX hbl hbA hS (vp_in_nI (show i + 1 < L by omega) (by omega)) dL_law_205 ?_
        refine go_pcI (As := [.int (xs (nI (i + 1)).toNatClampNeg)]) (rest := []) X (gX0_at (a := a) (xs (nI (i + 1)).toNatClampNeg) hG hI) (cwV 1 hts (lw_V q131 q132 q133 q26 q134) rfl rfl rfl (by decide +kernel) ⟨Nat.le_of_ble_eq_true rfl, Nat.le_of_ble_eq_true rfl⟩) hKG hPG (va_recv hKG hPG (ci := 0) (q0 := 0) rfl rfl) rfl rfl hl.1 (Nat.le_of_ble_eq_true rfl) dL_law_206 ⟨Nat.le_of_ble_eq_true rfl, Nat.le_of_ble_eq_true rfl⟩ hS (fun r206 H1 locs p206 hk hS => ?_)
        have hPG := hk _ hPG
        have hPM := hk _ hPM
        clear hk
        generalize H1 = H at hPG hPM hS ⊢
        refine lv_aload_n hx hb dL_law_209 rfl (lv_at hl 2 rfl) ?_
        refine lv_aload_n hx hb dL_law_210 rfl (lv_at hl 0 rfl) ?_
        refine lv_iload_n hx hb dL_law_211 rfl (lv_at hl 3 rfl) ?_
        refine lv_iconst (v := nI 1) hx hb dL_law_212 (by decide) ?_
        refine lv_iadd hx hb dL_law_213 ?_
        refine lv_topi (fun v213 e213 => ?_)
        obtain rfl : v213 = nI (i + 1) := e213.trans (nI_add i 1)
        refine va_sld hx hb hX hbl hbA hS (vp_in_nI (show i + 1 < L by omega) (by omega)) dL_law_214 ?_
        refine go_pcI (As := [.int (xs (nI (i + 1)).toNatClampNeg)]) (rest := [.int r206]) X (gX1_at (a := a) (xs (nI (i + 1)).toNatClampNeg) hM hI) (cwV 1 hts (lw_V q283 q284 q285 q27 q286) rfl rfl rfl (by decide +kernel) ⟨Nat.le_of_ble_eq_true rfl, Nat.le_of_ble_eq_true rfl⟩) hKM hPM (va_recv hKM hPM (ci := 1) (q0 := 0) rfl rfl) rfl rfl hl.1 (Nat.le_of_ble_eq_true rfl) dL_law_215 ⟨Nat.le_of_ble_eq_true rfl, Nat.le_of_ble_eq_true rfl⟩ hS (fun r215 H1 locs p215 hk hS => ?_)
        have hPG := hk _ hPG
        have hPM := hk _ hPM
        clear hk
        generalize H1 = H at hPG hPM hS ⊢
        refine lv_icmp_eq (tgt := 453) hx hb dL_law_218 (by decide) (fun c218 => ?_) (fun c218 => ?_)
        · refine lv_iinc (v := nI (i + 3)) (lv' := [(3, .int (nI (i + 3))), (0, .ref b), (1, .ref (bG 0)), (2, .ref (bM 0))]) hx hb dL_law_453 hl (k := 3) rfl (nI_add i 3) (by decide) rfl (fun ls hl => ?_)
          refine lv_goto (tgt := 18) hx hb dL_law_456 (by decide) ?_
          exact ih (i + 3) (a) bl wh cn ob ow ot bt wt tb tw bd hi hf hs dn cp rc dd kp (by omega) (by omega) hI hG hM _ _ _ hPG hDG hPM hDM hS (lv_sub hl [1, 2, 3, 0] rfl)
        · exact absurd (p206.trans p215.symm) c218
      · refine lv_tableIn (off := 191) (tgt := 223) hx hb dL_law_32 (by decide) (by decide) (by decide) (by decide) ?_
        refine lv_aload_n hx hb dL_law_223 rfl (lv_at hl 1 rfl) ?_
        refine lv_aload_n hx hb dL_law_224 rfl (lv_at hl 0 rfl) ?_
        refine lv_iload_n hx hb dL_law_225 rfl (lv_at hl 3 rfl) ?_
        refine lv_iconst (v := nI 1) hx hb dL_law_226 (by decide) ?_
        refine lv_iadd hx hb dL_law_227 ?_
        refine lv_topi (fun v227 e227 => ?_)
        obtain rfl : v227 = nI (i + 1) := e227.trans (nI_add i 1)
        refine va_sld hx hb hX hbl hbA hS (vp_in_nI (show i + 1 < L by omega) (by omega)) dL_law_228 ?_
        refine go_pcI (As := [.int (xs (nI (i + 1)).toNatClampNeg)]) (rest := []) X (gX0_captured (a := a) (xs (nI (i + 1)).toNatClampNeg) hG hI) (cwV 1 hts (lw_V q135 q136 q137 q26 q138) rfl rfl rfl (by decide +kernel) ⟨Nat.le_of_ble_eq_true rfl, Nat.le_of_ble_eq_true rfl⟩) hKG hPG (va_recv hKG hPG (ci := 0) (q0 := 0) rfl rfl) rfl rfl hl.1 (Nat.le_of_ble_eq_true rfl) dL_law_229 ⟨Nat.le_of_ble_eq_true rfl, Nat.le_of_ble_eq_true rfl⟩ hS (fun r229 H1 locs p229 hk hS => ?_)
        have hPG := hk _ hPG
        have hPM := hk _ hPM
        clear hk
        generalize H1 = H at hPG hPM hS ⊢
        refine lv_aload_n hx hb dL_law_232 rfl (lv_at hl 2 rfl) ?_
        refine lv_aload_n hx hb dL_law_233 rfl (lv_at hl 0 rfl) ?_
        refine lv_iload_n hx hb dL_law_234 rfl (lv_at hl 3 rfl) ?_
        refine lv_iconst (v := nI 1) hx hb dL_law_235 (by decide) ?_
        refine lv_iadd hx hb dL_law_236 ?_
        refine lv_topi (fun v236 e236 => ?_)
        obtain rfl : v236 = nI (i + 1) := e236.trans (nI_add i 1)
        refine va_sld hx hb hX hbl hbA hS (vp_in_nI (show i + 1 < L by omega) (by omega)) dL_law_237 ?_
        refine go_pcI (As := [.int (xs (nI (i + 1)).toNatClampNeg)]) (rest := [.int r229]) X (gX1_captured (a := a) (xs (nI (i + 1)).toNatClampNeg) hM hI) (cwV 1 hts (lw_V q287 q288 q289 q27 q290) rfl rfl rfl (by decide +kernel) ⟨Nat.le_of_ble_eq_true rfl, Nat.le_of_ble_eq_true rfl⟩) hKM hPM (va_recv hKM hPM (ci := 1) (q0 := 0) rfl rfl) rfl rfl hl.1 (Nat.le_of_ble_eq_true rfl) dL_law_238 ⟨Nat.le_of_ble_eq_true rfl, Nat.le_of_ble_eq_true rfl⟩ hS (fun r238 H1 locs p238 hk hS => ?_)
        have hPG := hk _ hPG
        have hPM := hk _ hPM
        clear hk
        generalize H1 = H at hPG hPM hS ⊢
        refine lv_icmp_eq (tgt := 453) hx hb dL_law_241 (by decide) (fun c241 => ?_) (fun c241 => ?_)
        · refine lv_iinc (v := nI (i + 3)) (lv' := [(3, .int (nI (i + 3))), (0, .ref b), (1, .ref (bG 0)), (2, .ref (bM 0))]) hx hb dL_law_453 hl (k := 3) rfl (nI_add i 3) (by decide) rfl (fun ls hl => ?_)
          refine lv_goto (tgt := 18) hx hb dL_law_456 (by decide) ?_
          exact ih (i + 3) (a) bl wh cn ob ow ot bt wt tb tw bd hi hf hs dn cp rc dd kp (by omega) (by omega) hI hG hM _ _ _ hPG hDG hPM hDM hS (lv_sub hl [1, 2, 3, 0] rfl)
        · exact absurd (p229.trans p238.symm) c241
      · refine lv_tableIn (off := 214) (tgt := 246) hx hb dL_law_32 (by decide) (by decide) (by decide) (by decide) ?_
        refine lv_aload_n hx hb dL_law_246 rfl (lv_at hl 1 rfl) ?_
        refine lv_aload_n hx hb dL_law_247 rfl (lv_at hl 0 rfl) ?_
        refine lv_iload_n hx hb dL_law_248 rfl (lv_at hl 3 rfl) ?_
        refine lv_iconst (v := nI 1) hx hb dL_law_249 (by decide) ?_
        refine lv_iadd hx hb dL_law_250 ?_
        refine lv_topi (fun v250 e250 => ?_)
        obtain rfl : v250 = nI (i + 1) := e250.trans (nI_add i 1)
        refine va_sld hx hb hX hbl hbA hS (vp_in_nI (show i + 1 < L by omega) (by omega)) dL_law_251 ?_
        refine go_pcI (As := [.int (xs (nI (i + 1)).toNatClampNeg)]) (rest := []) X (gX0_groupSize (a := a) (xs (nI (i + 1)).toNatClampNeg) hG hI) (cwV 1 hts (lw_V q139 q140 q141 q26 q142) rfl rfl rfl (by decide +kernel) ⟨Nat.le_of_ble_eq_true rfl, Nat.le_of_ble_eq_true rfl⟩) hKG hPG (va_recv hKG hPG (ci := 0) (q0 := 0) rfl rfl) rfl rfl hl.1 (Nat.le_of_ble_eq_true rfl) dL_law_252 ⟨Nat.le_of_ble_eq_true rfl, Nat.le_of_ble_eq_true rfl⟩ hS (fun r252 H1 locs p252 hk hS => ?_)
        have hPG := hk _ hPG
        have hPM := hk _ hPM
        clear hk
        generalize H1 = H at hPG hPM hS ⊢
        refine lv_aload_n hx hb dL_law_255 rfl (lv_at hl 2 rfl) ?_
        refine lv_aload_n hx hb dL_law_256 rfl (lv_at hl 0 rfl) ?_
        refine lv_iload_n hx hb dL_law_257 rfl (lv_at hl 3 rfl) ?_
        refine lv_iconst (v := nI 1) hx hb dL_law_258 (by decide) ?_
        refine lv_iadd hx hb dL_law_259 ?_
        refine lv_topi (fun v259 e259 => ?_)
        obtain rfl : v259 = nI (i + 1) := e259.trans (nI_add i 1)
        refine va_sld hx hb hX hbl hbA hS (vp_in_nI (show i + 1 < L by omega) (by omega)) dL_law_260 ?_
        refine go_mcI (As := [.int (xs (nI (i + 1)).toNatClampNeg)]) (rest := [.int r252]) X (gX1_groupSize (a := a) (xs (nI (i + 1)).toNatClampNeg) hM hI) (cwV 1 hts (lw_V q291 q292 q293 q27 q294) rfl rfl rfl (by decide +kernel) ⟨Nat.le_of_ble_eq_true rfl, Nat.le_of_ble_eq_true rfl⟩) hKM hPM hDM hA (va_recv hKM hPM (ci := 1) (q0 := 0) rfl rfl) rfl rfl hl.1 (Nat.le_of_ble_eq_true rfl) dL_law_261 ⟨Nat.le_of_ble_eq_true rfl, Nat.le_of_ble_eq_true rfl⟩ hS (fun r261 u261 H1 locs p261 hPM hDM hS hk => ?_)
        have hPG := hk _ hPG (go_apM hap)
        clear hk
        obtain ⟨rc_261, rfl⟩ : ∃ z, z = u261 := ⟨_, rfl⟩
        generalize H1 = H at hPG hPM hS ⊢
        have hPM : va_P D go_cl (go_M bM cM bd hi hf hs dn cp rc_261 dd kp) H := hPM
        have hDM : va_D A (go_M bM cM bd hi hf hs dn cp rc_261 dd kp) := hDM
        try dsimp only at p261
        refine lv_icmp_eq (tgt := 453) hx hb dL_law_264 (by decide) (fun c264 => ?_) (fun c264 => ?_)
        · refine lv_iinc (v := nI (i + 3)) (lv' := [(3, .int (nI (i + 3))), (0, .ref b), (1, .ref (bG 0)), (2, .ref (bM 0))]) hx hb dL_law_453 hl (k := 3) rfl (nI_add i 3) (by decide) rfl (fun ls hl => ?_)
          refine lv_goto (tgt := 18) hx hb dL_law_456 (by decide) ?_
          exact ih (i + 3) (a) bl wh cn ob ow ot bt wt tb tw bd hi hf hs dn cp rc_261 dd kp (by omega) (by omega) hI hG hM _ _ _ hPG hDG hPM hDM hS (lv_sub hl [1, 2, 3, 0] rfl)
        · exact absurd (p252.trans p261.symm) c264
      · refine lv_tableIn (off := 237) (tgt := 269) hx hb dL_law_32 (by decide) (by decide) (by decide) (by decide) ?_
        refine lv_aload_n hx hb dL_law_269 rfl (lv_at hl 1 rfl) ?_
        refine lv_aload_n hx hb dL_law_270 rfl (lv_at hl 0 rfl) ?_
        refine lv_iload_n hx hb dL_law_271 rfl (lv_at hl 3 rfl) ?_
        refine lv_iconst (v := nI 1) hx hb dL_law_272 (by decide) ?_
        refine lv_iadd hx hb dL_law_273 ?_
        refine lv_topi (fun v273 e273 => ?_)
        obtain rfl : v273 = nI (i + 1) := e273.trans (nI_add i 1)
        refine va_sld hx hb hX hbl hbA hS (vp_in_nI (show i + 1 < L by omega) (by omega)) dL_law_274 ?_
        refine go_pcI (As := [.int (xs (nI (i + 1)).toNatClampNeg)]) (rest := []) X (gX0_liberties (a := a) (xs (nI (i + 1)).toNatClampNeg) hG hI) (cwV 1 hts (lw_V q148 q149 q150 q26 q151) rfl rfl rfl (by decide +kernel) ⟨Nat.le_of_ble_eq_true rfl, Nat.le_of_ble_eq_true rfl⟩) hKG hPG (va_recv hKG hPG (ci := 0) (q0 := 0) rfl rfl) rfl rfl hl.1 (Nat.le_of_ble_eq_true rfl) dL_law_275 ⟨Nat.le_of_ble_eq_true rfl, Nat.le_of_ble_eq_true rfl⟩ hS (fun r275 H1 locs p275 hk hS => ?_)
        have hPG := hk _ hPG
        have hPM := hk _ hPM
        clear hk
        generalize H1 = H at hPG hPM hS ⊢
        refine lv_aload_n hx hb dL_law_278 rfl (lv_at hl 2 rfl) ?_
        refine lv_aload_n hx hb dL_law_279 rfl (lv_at hl 0 rfl) ?_
        refine lv_iload_n hx hb dL_law_280 rfl (lv_at hl 3 rfl) ?_
        refine lv_iconst (v := nI 1) hx hb dL_law_281 (by decide) ?_
        refine lv_iadd hx hb dL_law_282 ?_
        refine lv_topi (fun v282 e282 => ?_)
        obtain rfl : v282 = nI (i + 1) := e282.trans (nI_add i 1)
        refine va_sld hx hb hX hbl hbA hS (vp_in_nI (show i + 1 < L by omega) (by omega)) dL_law_283 ?_
        refine go_mcI (As := [.int (xs (nI (i + 1)).toNatClampNeg)]) (rest := [.int r275]) X (gX1_liberties (a := a) (xs (nI (i + 1)).toNatClampNeg) hM hI) (cwV 1 hts (lw_V q295 q296 q297 q27 q298) rfl rfl rfl (by decide +kernel) ⟨Nat.le_of_ble_eq_true rfl, Nat.le_of_ble_eq_true rfl⟩) hKM hPM hDM hA (va_recv hKM hPM (ci := 1) (q0 := 0) rfl rfl) rfl rfl hl.1 (Nat.le_of_ble_eq_true rfl) dL_law_284 ⟨Nat.le_of_ble_eq_true rfl, Nat.le_of_ble_eq_true rfl⟩ hS (fun r284 u284 H1 locs p284 hPM hDM hS hk => ?_)
        have hPG := hk _ hPG (go_apM hap)
        clear hk
        obtain ⟨rc_284, rfl⟩ : ∃ z, z = u284 := ⟨_, rfl⟩
        generalize H1 = H at hPG hPM hS ⊢
        have hPM : va_P D go_cl (go_M bM cM bd hi hf hs dn cp rc_284 dd kp) H := hPM
        have hDM : va_D A (go_M bM cM bd hi hf hs dn cp rc_284 dd kp) := hDM
        try dsimp only at p284
        refine lv_icmp_eq (tgt := 453) hx hb dL_law_287 (by decide) (fun c287 => ?_) (fun c287 => ?_)
        · refine lv_iinc (v := nI (i + 3)) (lv' := [(3, .int (nI (i + 3))), (0, .ref b), (1, .ref (bG 0)), (2, .ref (bM 0))]) hx hb dL_law_453 hl (k := 3) rfl (nI_add i 3) (by decide) rfl (fun ls hl => ?_)
          refine lv_goto (tgt := 18) hx hb dL_law_456 (by decide) ?_
          exact ih (i + 3) (a) bl wh cn ob ow ot bt wt tb tw bd hi hf hs dn cp rc_284 dd kp (by omega) (by omega) hI hG hM _ _ _ hPG hDG hPM hDM hS (lv_sub hl [1, 2, 3, 0] rfl)
        · exact absurd (p275.trans p284.symm) c287
      · refine lv_tableIn (off := 260) (tgt := 292) hx hb dL_law_32 (by decide) (by decide) (by decide) (by decide) ?_
        refine lv_aload_n hx hb dL_law_292 rfl (lv_at hl 1 rfl) ?_
        refine lv_aload_n hx hb dL_law_293 rfl (lv_at hl 0 rfl) ?_
        refine lv_iload_n hx hb dL_law_294 rfl (lv_at hl 3 rfl) ?_
        refine lv_iconst (v := nI 1) hx hb dL_law_295 (by decide) ?_
        refine lv_iadd hx hb dL_law_296 ?_
        refine lv_topi (fun v296 e296 => ?_)
        obtain rfl : v296 = nI (i + 1) := e296.trans (nI_add i 1)
        refine va_sld hx hb hX hbl hbA hS (vp_in_nI (show i + 1 < L by omega) (by omega)) dL_law_297 ?_
        refine lv_aload_n hx hb dL_law_298 rfl (lv_at hl 0 rfl) ?_
        refine lv_iload_n hx hb dL_law_299 rfl (lv_at hl 3 rfl) ?_
        refine lv_iconst (v := nI 2) hx hb dL_law_300 (by decide) ?_
        refine lv_iadd hx hb dL_law_301 ?_
        refine lv_topi (fun v301 e301 => ?_)
        obtain rfl : v301 = nI (i + 2) := e301.trans (nI_add i 2)
        refine va_sld hx hb hX hbl hbA hS (vp_in_nI (show i + 2 < L by omega) (by omega)) dL_law_302 ?_
        refine go_mcI (As := [.int (xs (nI (i + 1)).toNatClampNeg), .int (xs (nI (i + 2)).toNatClampNeg)]) (rest := []) X (gX0_trial (a := a) (xs (nI (i + 1)).toNatClampNeg) (xs (nI (i + 2)).toNatClampNeg) hG hI) (cwV 2 hts (lw_V q156 q157 q158 q26 q159) rfl rfl rfl (by decide +kernel) ⟨Nat.le_of_ble_eq_true rfl, Nat.le_of_ble_eq_true rfl⟩) hKG hPG hDG hA (va_recv hKG hPG (ci := 0) (q0 := 0) rfl rfl) rfl rfl hl.1 (Nat.le_of_ble_eq_true rfl) dL_law_303 ⟨Nat.le_of_ble_eq_true rfl, Nat.le_of_ble_eq_true rfl⟩ hS (fun r303 u303 H1 locs p303 hPG hDG hS hk => ?_)
        have hPM := hk _ hPM (go_apG hap)
        clear hk
        obtain ⟨tb_303, tw_303⟩ := u303
        generalize H1 = H at hPG hPM hS ⊢
        have hPG : va_P D go_cl (go_G bG cG bl wh cn ob ow ot bt wt tb_303 tw_303) H := hPG
        have hDG : va_D A (go_G bG cG bl wh cn ob ow ot bt wt tb_303 tw_303) := hDG
        try dsimp only at p303
        refine lv_aload_n hx hb dL_law_306 rfl (lv_at hl 2 rfl) ?_
        refine lv_aload_n hx hb dL_law_307 rfl (lv_at hl 0 rfl) ?_
        refine lv_iload_n hx hb dL_law_308 rfl (lv_at hl 3 rfl) ?_
        refine lv_iconst (v := nI 1) hx hb dL_law_309 (by decide) ?_
        refine lv_iadd hx hb dL_law_310 ?_
        refine lv_topi (fun v310 e310 => ?_)
        obtain rfl : v310 = nI (i + 1) := e310.trans (nI_add i 1)
        refine va_sld hx hb hX hbl hbA hS (vp_in_nI (show i + 1 < L by omega) (by omega)) dL_law_311 ?_
        refine lv_aload_n hx hb dL_law_312 rfl (lv_at hl 0 rfl) ?_
        refine lv_iload_n hx hb dL_law_313 rfl (lv_at hl 3 rfl) ?_
        refine lv_iconst (v := nI 2) hx hb dL_law_314 (by decide) ?_
        refine lv_iadd hx hb dL_law_315 ?_
        refine lv_topi (fun v315 e315 => ?_)
        obtain rfl : v315 = nI (i + 2) := e315.trans (nI_add i 2)
        refine va_sld hx hb hX hbl hbA hS (vp_in_nI (show i + 2 < L by omega) (by omega)) dL_law_316 ?_
        refine go_mcI (As := [.int (xs (nI (i + 1)).toNatClampNeg), .int (xs (nI (i + 2)).toNatClampNeg)]) (rest := [.int r303]) X (gX1_trial (a := a) (xs (nI (i + 1)).toNatClampNeg) (xs (nI (i + 2)).toNatClampNeg) hM hI) (cwV 2 hts (lw_V q299 q300 q301 q27 q302) rfl rfl rfl (by decide +kernel) ⟨Nat.le_of_ble_eq_true rfl, Nat.le_of_ble_eq_true rfl⟩) hKM hPM hDM hA (va_recv hKM hPM (ci := 1) (q0 := 0) rfl rfl) rfl rfl hl.1 (Nat.le_of_ble_eq_true rfl) dL_law_317 ⟨Nat.le_of_ble_eq_true rfl, Nat.le_of_ble_eq_true rfl⟩ hS (fun r317 u317 H1 locs p317 hPM hDM hS hk => ?_)
        have hPG := hk _ hPG (go_apM hap)
        clear hk
        obtain ⟨bd_317, rc_317, dd_317, kp_317⟩ := u317
        generalize H1 = H at hPG hPM hS ⊢
        have hPM : va_P D go_cl (go_M bM cM bd_317 hi hf hs dn cp rc_317 dd_317 kp_317) H := hPM
        have hDM : va_D A (go_M bM cM bd_317 hi hf hs dn cp rc_317 dd_317 kp_317) := hDM
        try dsimp only at p317
        refine lv_icmp_eq (tgt := 453) hx hb dL_law_320 (by decide) (fun c320 => ?_) (fun c320 => ?_)
        · refine lv_iinc (v := nI (i + 3)) (lv' := [(3, .int (nI (i + 3))), (0, .ref b), (1, .ref (bG 0)), (2, .ref (bM 0))]) hx hb dL_law_453 hl (k := 3) rfl (nI_add i 3) (by decide) rfl (fun ls hl => ?_)
          refine lv_goto (tgt := 18) hx hb dL_law_456 (by decide) ?_
          exact ih (i + 3) (a) bl wh cn ob ow ot bt wt tb_303 tw_303 bd_317 hi hf hs dn cp rc_317 dd_317 kp_317 (by omega) (by omega) hI hG p317.2 _ _ _ hPG hDG hPM hDM hS (lv_sub hl [1, 2, 3, 0] rfl)
        · exact absurd (p303.trans p317.1.symm) c320
      · refine lv_tableIn (off := 293) (tgt := 325) hx hb dL_law_32 (by decide) (by decide) (by decide) (by decide) ?_
        refine lv_aload_n hx hb dL_law_325 rfl (lv_at hl 1 rfl) ?_
        refine lv_aload_n hx hb dL_law_326 rfl (lv_at hl 0 rfl) ?_
        refine lv_iload_n hx hb dL_law_327 rfl (lv_at hl 3 rfl) ?_
        refine lv_iconst (v := nI 1) hx hb dL_law_328 (by decide) ?_
        refine lv_iadd hx hb dL_law_329 ?_
        refine lv_topi (fun v329 e329 => ?_)
        obtain rfl : v329 = nI (i + 1) := e329.trans (nI_add i 1)
        refine va_sld hx hb hX hbl hbA hS (vp_in_nI (show i + 1 < L by omega) (by omega)) dL_law_330 ?_
        refine go_mcI (As := [.int (xs (nI (i + 1)).toNatClampNeg)]) (rest := []) X (gX0_moves (a := a) (xs (nI (i + 1)).toNatClampNeg) hG hI) (cwV 1 hts (lw_V q160 q161 q162 q26 q163) rfl rfl rfl (by decide +kernel) ⟨Nat.le_of_ble_eq_true rfl, Nat.le_of_ble_eq_true rfl⟩) hKG hPG hDG hA (va_recv hKG hPG (ci := 0) (q0 := 0) rfl rfl) rfl rfl hl.1 (Nat.le_of_ble_eq_true rfl) dL_law_331 ⟨Nat.le_of_ble_eq_true rfl, Nat.le_of_ble_eq_true rfl⟩ hS (fun r331 u331 H1 locs p331 hPG hDG hS hk => ?_)
        have hPM := hk _ hPM (go_apG hap)
        clear hk
        obtain ⟨tb_331, tw_331⟩ := u331
        generalize H1 = H at hPG hPM hS ⊢
        have hPG : va_P D go_cl (go_G bG cG bl wh cn ob ow ot bt wt tb_331 tw_331) H := hPG
        have hDG : va_D A (go_G bG cG bl wh cn ob ow ot bt wt tb_331 tw_331) := hDG
        try dsimp only at p331
        refine lv_aload_n hx hb dL_law_334 rfl (lv_at hl 2 rfl) ?_
        refine lv_aload_n hx hb dL_law_335 rfl (lv_at hl 0 rfl) ?_
        refine lv_iload_n hx hb dL_law_336 rfl (lv_at hl 3 rfl) ?_
        refine lv_iconst (v := nI 1) hx hb dL_law_337 (by decide) ?_
        refine lv_iadd hx hb dL_law_338 ?_
        refine lv_topi (fun v338 e338 => ?_)
        obtain rfl : v338 = nI (i + 1) := e338.trans (nI_add i 1)
        refine va_sld hx hb hX hbl hbA hS (vp_in_nI (show i + 1 < L by omega) (by omega)) dL_law_339 ?_
        refine go_mcI (As := [.int (xs (nI (i + 1)).toNatClampNeg)]) (rest := [.int r331]) X (gX1_moves (a := a) (xs (nI (i + 1)).toNatClampNeg) hM hI) (cwV 1 hts (lw_V q303 q304 q305 q27 q306) rfl rfl rfl (by decide +kernel) ⟨Nat.le_of_ble_eq_true rfl, Nat.le_of_ble_eq_true rfl⟩) hKM hPM hDM hA (va_recv hKM hPM (ci := 1) (q0 := 0) rfl rfl) rfl rfl hl.1 (Nat.le_of_ble_eq_true rfl) dL_law_340 ⟨Nat.le_of_ble_eq_true rfl, Nat.le_of_ble_eq_true rfl⟩ hS (fun r340 u340 H1 locs p340 hPM hDM hS hk => ?_)
        have hPG := hk _ hPG (go_apM hap)
        clear hk
        obtain ⟨bd_340, rc_340, dd_340, kp_340⟩ := u340
        generalize H1 = H at hPG hPM hS ⊢
        have hPM : va_P D go_cl (go_M bM cM bd_340 hi hf hs dn cp rc_340 dd_340 kp_340) H := hPM
        have hDM : va_D A (go_M bM cM bd_340 hi hf hs dn cp rc_340 dd_340 kp_340) := hDM
        try dsimp only at p340
        refine lv_icmp_eq (tgt := 453) hx hb dL_law_343 (by decide) (fun c343 => ?_) (fun c343 => ?_)
        · refine lv_iinc (v := nI (i + 3)) (lv' := [(3, .int (nI (i + 3))), (0, .ref b), (1, .ref (bG 0)), (2, .ref (bM 0))]) hx hb dL_law_453 hl (k := 3) rfl (nI_add i 3) (by decide) rfl (fun ls hl => ?_)
          refine lv_goto (tgt := 18) hx hb dL_law_456 (by decide) ?_
          exact ih (i + 3) (a) bl wh cn ob ow ot bt wt tb_331 tw_331 bd_340 hi hf hs dn cp rc_340 dd_340 kp_340 (by omega) (by omega) hI hG p340.2 _ _ _ hPG hDG hPM hDM hS (lv_sub hl [1, 2, 3, 0] rfl)
        · exact absurd (p331.trans p340.1.symm) c343
      · refine lv_tableIn (off := 316) (tgt := 348) hx hb dL_law_32 (by decide) (by decide) (by decide) (by decide) ?_
        refine lv_aload_n hx hb dL_law_348 rfl (lv_at hl 1 rfl) ?_
        refine lv_aload_n hx hb dL_law_349 rfl (lv_at hl 0 rfl) ?_
        refine lv_iload_n hx hb dL_law_350 rfl (lv_at hl 3 rfl) ?_
        refine lv_iconst (v := nI 1) hx hb dL_law_351 (by decide) ?_
        refine lv_iadd hx hb dL_law_352 ?_
        refine lv_topi (fun v352 e352 => ?_)
        obtain rfl : v352 = nI (i + 1) := e352.trans (nI_add i 1)
        refine va_sld hx hb hX hbl hbA hS (vp_in_nI (show i + 1 < L by omega) (by omega)) dL_law_353 ?_
        refine go_pcI (As := [.int (xs (nI (i + 1)).toNatClampNeg)]) (rest := []) X (gX0_groups (a := a) (xs (nI (i + 1)).toNatClampNeg) hG hI) (cwV 1 hts (lw_V q164 q165 q166 q26 q167) rfl rfl rfl (by decide +kernel) ⟨Nat.le_of_ble_eq_true rfl, Nat.le_of_ble_eq_true rfl⟩) hKG hPG (va_recv hKG hPG (ci := 0) (q0 := 0) rfl rfl) rfl rfl hl.1 (Nat.le_of_ble_eq_true rfl) dL_law_354 ⟨Nat.le_of_ble_eq_true rfl, Nat.le_of_ble_eq_true rfl⟩ hS (fun r354 H1 locs p354 hk hS => ?_)
        have hPG := hk _ hPG
        have hPM := hk _ hPM
        clear hk
        generalize H1 = H at hPG hPM hS ⊢
        refine lv_aload_n hx hb dL_law_357 rfl (lv_at hl 2 rfl) ?_
        refine lv_aload_n hx hb dL_law_358 rfl (lv_at hl 0 rfl) ?_
        refine lv_iload_n hx hb dL_law_359 rfl (lv_at hl 3 rfl) ?_
        refine lv_iconst (v := nI 1) hx hb dL_law_360 (by decide) ?_
        refine lv_iadd hx hb dL_law_361 ?_
        refine lv_topi (fun v361 e361 => ?_)
        obtain rfl : v361 = nI (i + 1) := e361.trans (nI_add i 1)
        refine va_sld hx hb hX hbl hbA hS (vp_in_nI (show i + 1 < L by omega) (by omega)) dL_law_362 ?_
        refine go_mcI (As := [.int (xs (nI (i + 1)).toNatClampNeg)]) (rest := [.int r354]) X (gX1_groups (a := a) (xs (nI (i + 1)).toNatClampNeg) hM hI) (cwV 1 hts (lw_V q308 q309 q310 q27 q311) rfl rfl rfl (by decide +kernel) ⟨Nat.le_of_ble_eq_true rfl, Nat.le_of_ble_eq_true rfl⟩) hKM hPM hDM hA (va_recv hKM hPM (ci := 1) (q0 := 0) rfl rfl) rfl rfl hl.1 (Nat.le_of_ble_eq_true rfl) dL_law_363 ⟨Nat.le_of_ble_eq_true rfl, Nat.le_of_ble_eq_true rfl⟩ hS (fun r363 u363 H1 locs p363 hPM hDM hS hk => ?_)
        have hPG := hk _ hPG (go_apM hap)
        clear hk
        obtain ⟨rc_363, rfl⟩ : ∃ z, z = u363 := ⟨_, rfl⟩
        generalize H1 = H at hPG hPM hS ⊢
        have hPM : va_P D go_cl (go_M bM cM bd hi hf hs dn cp rc_363 dd kp) H := hPM
        have hDM : va_D A (go_M bM cM bd hi hf hs dn cp rc_363 dd kp) := hDM
        try dsimp only at p363
        refine lv_icmp_eq (tgt := 453) hx hb dL_law_366 (by decide) (fun c366 => ?_) (fun c366 => ?_)
        · refine lv_iinc (v := nI (i + 3)) (lv' := [(3, .int (nI (i + 3))), (0, .ref b), (1, .ref (bG 0)), (2, .ref (bM 0))]) hx hb dL_law_453 hl (k := 3) rfl (nI_add i 3) (by decide) rfl (fun ls hl => ?_)
          refine lv_goto (tgt := 18) hx hb dL_law_456 (by decide) ?_
          exact ih (i + 3) (a) bl wh cn ob ow ot bt wt tb tw bd hi hf hs dn cp rc_363 dd kp (by omega) (by omega) hI hG hM _ _ _ hPG hDG hPM hDM hS (lv_sub hl [1, 2, 3, 0] rfl)
        · exact absurd (p354.trans p363.symm) c366
      · refine lv_tableIn (off := 339) (tgt := 371) hx hb dL_law_32 (by decide) (by decide) (by decide) (by decide) ?_
        refine lv_aload_n hx hb dL_law_371 rfl (lv_at hl 1 rfl) ?_
        refine lv_aload_n hx hb dL_law_372 rfl (lv_at hl 0 rfl) ?_
        refine lv_iload_n hx hb dL_law_373 rfl (lv_at hl 3 rfl) ?_
        refine lv_iconst (v := nI 1) hx hb dL_law_374 (by decide) ?_
        refine lv_iadd hx hb dL_law_375 ?_
        refine lv_topi (fun v375 e375 => ?_)
        obtain rfl : v375 = nI (i + 1) := e375.trans (nI_add i 1)
        refine va_sld hx hb hX hbl hbA hS (vp_in_nI (show i + 1 < L by omega) (by omega)) dL_law_376 ?_
        refine go_pcI (As := [.int (xs (nI (i + 1)).toNatClampNeg)]) (rest := []) X (gX0_inAtari (a := a) (xs (nI (i + 1)).toNatClampNeg) hG hI) (cwV 1 hts (lw_V q172 q173 q174 q26 q175) rfl rfl rfl (by decide +kernel) ⟨Nat.le_of_ble_eq_true rfl, Nat.le_of_ble_eq_true rfl⟩) hKG hPG (va_recv hKG hPG (ci := 0) (q0 := 0) rfl rfl) rfl rfl hl.1 (Nat.le_of_ble_eq_true rfl) dL_law_377 ⟨Nat.le_of_ble_eq_true rfl, Nat.le_of_ble_eq_true rfl⟩ hS (fun r377 H1 locs p377 hk hS => ?_)
        have hPG := hk _ hPG
        have hPM := hk _ hPM
        clear hk
        generalize H1 = H at hPG hPM hS ⊢
        refine lv_aload_n hx hb dL_law_380 rfl (lv_at hl 2 rfl) ?_
        refine lv_aload_n hx hb dL_law_381 rfl (lv_at hl 0 rfl) ?_
        refine lv_iload_n hx hb dL_law_382 rfl (lv_at hl 3 rfl) ?_
        refine lv_iconst (v := nI 1) hx hb dL_law_383 (by decide) ?_
        refine lv_iadd hx hb dL_law_384 ?_
        refine lv_topi (fun v384 e384 => ?_)
        obtain rfl : v384 = nI (i + 1) := e384.trans (nI_add i 1)
        refine va_sld hx hb hX hbl hbA hS (vp_in_nI (show i + 1 < L by omega) (by omega)) dL_law_385 ?_
        refine go_mcI (As := [.int (xs (nI (i + 1)).toNatClampNeg)]) (rest := [.int r377]) X (gX1_inAtari (a := a) (xs (nI (i + 1)).toNatClampNeg) hM hI) (cwV 1 hts (lw_V q316 q317 q318 q27 q319) rfl rfl rfl (by decide +kernel) ⟨Nat.le_of_ble_eq_true rfl, Nat.le_of_ble_eq_true rfl⟩) hKM hPM hDM hA (va_recv hKM hPM (ci := 1) (q0 := 0) rfl rfl) rfl rfl hl.1 (Nat.le_of_ble_eq_true rfl) dL_law_386 ⟨Nat.le_of_ble_eq_true rfl, Nat.le_of_ble_eq_true rfl⟩ hS (fun r386 u386 H1 locs p386 hPM hDM hS hk => ?_)
        have hPG := hk _ hPG (go_apM hap)
        clear hk
        obtain ⟨rc_386, rfl⟩ : ∃ z, z = u386 := ⟨_, rfl⟩
        generalize H1 = H at hPG hPM hS ⊢
        have hPM : va_P D go_cl (go_M bM cM bd hi hf hs dn cp rc_386 dd kp) H := hPM
        have hDM : va_D A (go_M bM cM bd hi hf hs dn cp rc_386 dd kp) := hDM
        try dsimp only at p386
        refine lv_icmp_eq (tgt := 453) hx hb dL_law_389 (by decide) (fun c389 => ?_) (fun c389 => ?_)
        · refine lv_iinc (v := nI (i + 3)) (lv' := [(3, .int (nI (i + 3))), (0, .ref b), (1, .ref (bG 0)), (2, .ref (bM 0))]) hx hb dL_law_453 hl (k := 3) rfl (nI_add i 3) (by decide) rfl (fun ls hl => ?_)
          refine lv_goto (tgt := 18) hx hb dL_law_456 (by decide) ?_
          exact ih (i + 3) (a) bl wh cn ob ow ot bt wt tb tw bd hi hf hs dn cp rc_386 dd kp (by omega) (by omega) hI hG hM _ _ _ hPG hDG hPM hDM hS (lv_sub hl [1, 2, 3, 0] rfl)
        · exact absurd (p377.trans p386.symm) c389
      · refine lv_tableIn (off := 362) (tgt := 394) hx hb dL_law_32 (by decide) (by decide) (by decide) (by decide) ?_
        refine lv_aload_n hx hb dL_law_394 rfl (lv_at hl 1 rfl) ?_
        refine lv_aload_n hx hb dL_law_395 rfl (lv_at hl 0 rfl) ?_
        refine lv_iload_n hx hb dL_law_396 rfl (lv_at hl 3 rfl) ?_
        refine lv_iconst (v := nI 1) hx hb dL_law_397 (by decide) ?_
        refine lv_iadd hx hb dL_law_398 ?_
        refine lv_topi (fun v398 e398 => ?_)
        obtain rfl : v398 = nI (i + 1) := e398.trans (nI_add i 1)
        refine va_sld hx hb hX hbl hbA hS (vp_in_nI (show i + 1 < L by omega) (by omega)) dL_law_399 ?_
        refine go_pcI (As := [.int (xs (nI (i + 1)).toNatClampNeg)]) (rest := []) X (gX0_score (a := a) (xs (nI (i + 1)).toNatClampNeg) hG hI) (cwV 1 hts (lw_V q176 q177 q178 q26 q179) rfl rfl rfl (by decide +kernel) ⟨Nat.le_of_ble_eq_true rfl, Nat.le_of_ble_eq_true rfl⟩) hKG hPG (va_recv hKG hPG (ci := 0) (q0 := 0) rfl rfl) rfl rfl hl.1 (Nat.le_of_ble_eq_true rfl) dL_law_400 ⟨Nat.le_of_ble_eq_true rfl, Nat.le_of_ble_eq_true rfl⟩ hS (fun r400 H1 locs p400 hk hS => ?_)
        have hPG := hk _ hPG
        have hPM := hk _ hPM
        clear hk
        generalize H1 = H at hPG hPM hS ⊢
        refine lv_aload_n hx hb dL_law_403 rfl (lv_at hl 2 rfl) ?_
        refine lv_aload_n hx hb dL_law_404 rfl (lv_at hl 0 rfl) ?_
        refine lv_iload_n hx hb dL_law_405 rfl (lv_at hl 3 rfl) ?_
        refine lv_iconst (v := nI 1) hx hb dL_law_406 (by decide) ?_
        refine lv_iadd hx hb dL_law_407 ?_
        refine lv_topi (fun v407 e407 => ?_)
        obtain rfl : v407 = nI (i + 1) := e407.trans (nI_add i 1)
        refine va_sld hx hb hX hbl hbA hS (vp_in_nI (show i + 1 < L by omega) (by omega)) dL_law_408 ?_
        refine go_mcI (As := [.int (xs (nI (i + 1)).toNatClampNeg)]) (rest := [.int r400]) X (gX1_score (a := a) (xs (nI (i + 1)).toNatClampNeg) hM hI) (cwV 1 hts (lw_V q320 q321 q322 q27 q323) rfl rfl rfl (by decide +kernel) ⟨Nat.le_of_ble_eq_true rfl, Nat.le_of_ble_eq_true rfl⟩) hKM hPM hDM hA (va_recv hKM hPM (ci := 1) (q0 := 0) rfl rfl) rfl rfl hl.1 (Nat.le_of_ble_eq_true rfl) dL_law_409 ⟨Nat.le_of_ble_eq_true rfl, Nat.le_of_ble_eq_true rfl⟩ hS (fun r409 u409 H1 locs p409 hPM hDM hS hk => ?_)
        have hPG := hk _ hPG (go_apM hap)
        clear hk
        obtain ⟨rc_409, rfl⟩ : ∃ z, z = u409 := ⟨_, rfl⟩
        generalize H1 = H at hPG hPM hS ⊢
        have hPM : va_P D go_cl (go_M bM cM bd hi hf hs dn cp rc_409 dd kp) H := hPM
        have hDM : va_D A (go_M bM cM bd hi hf hs dn cp rc_409 dd kp) := hDM
        try dsimp only at p409
        refine lv_icmp_eq (tgt := 453) hx hb dL_law_412 (by decide) (fun c412 => ?_) (fun c412 => ?_)
        · refine lv_iinc (v := nI (i + 3)) (lv' := [(3, .int (nI (i + 3))), (0, .ref b), (1, .ref (bG 0)), (2, .ref (bM 0))]) hx hb dL_law_453 hl (k := 3) rfl (nI_add i 3) (by decide) rfl (fun ls hl => ?_)
          refine lv_goto (tgt := 18) hx hb dL_law_456 (by decide) ?_
          exact ih (i + 3) (a) bl wh cn ob ow ot bt wt tb tw bd hi hf hs dn cp rc_409 dd kp (by omega) (by omega) hI hG hM _ _ _ hPG hDG hPM hDM hS (lv_sub hl [1, 2, 3, 0] rfl)
        · exact absurd (p400.trans p409.symm) c412
      · refine lv_tableIn (off := 385) (tgt := 417) hx hb dL_law_32 (by decide) (by decide) (by decide) (by decide) ?_
        refine lv_aload_n hx hb dL_law_417 rfl (lv_at hl 1 rfl) ?_
        refine lv_aload_n hx hb dL_law_418 rfl (lv_at hl 0 rfl) ?_
        refine lv_iload_n hx hb dL_law_419 rfl (lv_at hl 3 rfl) ?_
        refine lv_iconst (v := nI 1) hx hb dL_law_420 (by decide) ?_
        refine lv_iadd hx hb dL_law_421 ?_
        refine lv_topi (fun v421 e421 => ?_)
        obtain rfl : v421 = nI (i + 1) := e421.trans (nI_add i 1)
        refine va_sld hx hb hX hbl hbA hS (vp_in_nI (show i + 1 < L by omega) (by omega)) dL_law_422 ?_
        refine go_pcI (As := [.int (xs (nI (i + 1)).toNatClampNeg)]) (rest := []) X (gX0_region (a := a) (xs (nI (i + 1)).toNatClampNeg) hG hI) (cwV 1 hts (lw_V q180 q181 q182 q26 q183) rfl rfl rfl (by decide +kernel) ⟨Nat.le_of_ble_eq_true rfl, Nat.le_of_ble_eq_true rfl⟩) hKG hPG (va_recv hKG hPG (ci := 0) (q0 := 0) rfl rfl) rfl rfl hl.1 (Nat.le_of_ble_eq_true rfl) dL_law_423 ⟨Nat.le_of_ble_eq_true rfl, Nat.le_of_ble_eq_true rfl⟩ hS (fun r423 H1 locs p423 hk hS => ?_)
        have hPG := hk _ hPG
        have hPM := hk _ hPM
        clear hk
        generalize H1 = H at hPG hPM hS ⊢
        refine lv_aload_n hx hb dL_law_426 rfl (lv_at hl 2 rfl) ?_
        refine lv_aload_n hx hb dL_law_427 rfl (lv_at hl 0 rfl) ?_
        refine lv_iload_n hx hb dL_law_428 rfl (lv_at hl 3 rfl) ?_
        refine lv_iconst (v := nI 1) hx hb dL_law_429 (by decide) ?_
        refine lv_iadd hx hb dL_law_430 ?_
        refine lv_topi (fun v430 e430 => ?_)
        obtain rfl : v430 = nI (i + 1) := e430.trans (nI_add i 1)
        refine va_sld hx hb hX hbl hbA hS (vp_in_nI (show i + 1 < L by omega) (by omega)) dL_law_431 ?_
        refine go_mcI (As := [.int (xs (nI (i + 1)).toNatClampNeg)]) (rest := [.int r423]) X (gX1_region (a := a) (xs (nI (i + 1)).toNatClampNeg) hM hI) (cwV 1 hts (lw_V q328 q329 q330 q27 q331) rfl rfl rfl (by decide +kernel) ⟨Nat.le_of_ble_eq_true rfl, Nat.le_of_ble_eq_true rfl⟩) hKM hPM hDM hA (va_recv hKM hPM (ci := 1) (q0 := 0) rfl rfl) rfl rfl hl.1 (Nat.le_of_ble_eq_true rfl) dL_law_432 ⟨Nat.le_of_ble_eq_true rfl, Nat.le_of_ble_eq_true rfl⟩ hS (fun r432 u432 H1 locs p432 hPM hDM hS hk => ?_)
        have hPG := hk _ hPG (go_apM hap)
        clear hk
        obtain ⟨rc_432, rfl⟩ : ∃ z, z = u432 := ⟨_, rfl⟩
        generalize H1 = H at hPG hPM hS ⊢
        have hPM : va_P D go_cl (go_M bM cM bd hi hf hs dn cp rc_432 dd kp) H := hPM
        have hDM : va_D A (go_M bM cM bd hi hf hs dn cp rc_432 dd kp) := hDM
        try dsimp only at p432
        refine lv_icmp_eq (tgt := 453) hx hb dL_law_435 (by decide) (fun c435 => ?_) (fun c435 => ?_)
        · refine lv_iinc (v := nI (i + 3)) (lv' := [(3, .int (nI (i + 3))), (0, .ref b), (1, .ref (bG 0)), (2, .ref (bM 0))]) hx hb dL_law_453 hl (k := 3) rfl (nI_add i 3) (by decide) rfl (fun ls hl => ?_)
          refine lv_goto (tgt := 18) hx hb dL_law_456 (by decide) ?_
          exact ih (i + 3) (a) bl wh cn ob ow ot bt wt tb tw bd hi hf hs dn cp rc_432 dd kp (by omega) (by omega) hI hG hM _ _ _ hPG hDG hPM hDM hS (lv_sub hl [1, 2, 3, 0] rfl)
        · exact absurd (p423.trans p432.symm) c435
      · refine lv_tableIn (off := 408) (tgt := 440) hx hb dL_law_32 (by decide) (by decide) (by decide) (by decide) ?_
        refine lv_aload_n hx hb dL_law_440 rfl (lv_at hl 1 rfl) ?_
        refine go_pcI (As := []) (rest := []) X (gX0_done) (cwV 0 hts (lw_V q184 q185 q186 q26 q187) rfl rfl rfl (by decide +kernel) ⟨Nat.le_of_ble_eq_true rfl, Nat.le_of_ble_eq_true rfl⟩) hKG hPG (va_recv hKG hPG (ci := 0) (q0 := 0) rfl rfl) rfl rfl hl.1 (Nat.le_of_ble_eq_true rfl) dL_law_441 ⟨Nat.le_of_ble_eq_true rfl, Nat.le_of_ble_eq_true rfl⟩ hS (fun r441 H1 locs p441 hk hS => ?_)
        have hPG := hk _ hPG
        have hPM := hk _ hPM
        clear hk
        generalize H1 = H at hPG hPM hS ⊢
        refine lv_aload_n hx hb dL_law_444 rfl (lv_at hl 2 rfl) ?_
        refine go_pcI (As := []) (rest := [.int r441]) X (gX1_done) (cwV 0 hts (lw_V q332 q333 q334 q27 q335) rfl rfl rfl (by decide +kernel) ⟨Nat.le_of_ble_eq_true rfl, Nat.le_of_ble_eq_true rfl⟩) hKM hPM (va_recv hKM hPM (ci := 1) (q0 := 0) rfl rfl) rfl rfl hl.1 (Nat.le_of_ble_eq_true rfl) dL_law_445 ⟨Nat.le_of_ble_eq_true rfl, Nat.le_of_ble_eq_true rfl⟩ hS (fun r445 H1 locs p445 hk hS => ?_)
        have hPG := hk _ hPG
        have hPM := hk _ hPM
        clear hk
        generalize H1 = H at hPG hPM hS ⊢
        refine lv_icmp_eq (tgt := 453) hx hb dL_law_448 (by decide) (fun c448 => ?_) (fun c448 => ?_)
        · refine lv_iinc (v := nI (i + 3)) (lv' := [(3, .int (nI (i + 3))), (0, .ref b), (1, .ref (bG 0)), (2, .ref (bM 0))]) hx hb dL_law_453 hl (k := 3) rfl (nI_add i 3) (by decide) rfl (fun ls hl => ?_)
          refine lv_goto (tgt := 18) hx hb dL_law_456 (by decide) ?_
          exact ih (i + 3) (a) bl wh cn ob ow ot bt wt tb tw bd hi hf hs dn cp rc dd kp (by omega) (by omega) hI hG hM _ _ _ hPG hDG hPM hDM hS (lv_sub hl [1, 2, 3, 0] rfl)
        · exact absurd ((p441.trans hG.2.1).trans (p445.trans hM.2.2.2.2.1).symm) c448
      · refine lv_tableOut (tgt := 453) hx hb dL_law_32 (Or.inr (by decide)) (by decide) ?_
        refine lv_iinc (v := nI (i + 3)) (lv' := [(3, .int (nI (i + 3))), (0, .ref b), (1, .ref (bG 0)), (2, .ref (bM 0))]) hx hb dL_law_453 hl (k := 3) rfl (nI_add i 3) (by decide) rfl (fun ls hl => ?_)
        refine lv_goto (tgt := 18) hx hb dL_law_456 (by decide) ?_
        exact ih (i + 3) (a) bl wh cn ob ow ot bt wt tb tw bd hi hf hs dn cp rc dd kp (by omega) (by omega) hI hG hM _ _ _ hPG hDG hPM hDM hS (lv_sub hl [1, 2, 3, 0] rfl)
/-- a constructor's call -/
theorem go_icV {p : Program} {l : Launch} {e : Env} {R : Room} {s : State} {m : MethodId} {args : Array Value} {below : List Frame} {meth : Method} {c : Code} {H : Heap} {locs : List Loc} {cells slots mc ms : Nat} {Q : State → Prop} {cc bytes : ByteArray} {pc nL maxL index n : Nat} {ls : Array Slot} {rest st0 As : List Value} {A : Nat → Prop} {H0 : Heap} {D : va_G} {w : va_W} {tys : List (ClassId × FieldType)} {y : MethodName} {ret0 : Option FieldType} {ws : List Cond} {rm : Room} {own : String} {bA : Nat} {B9 : (Nat → Prop) → State → Prop} (X : go_Cx p s m args meth c cc nL ret0 own) (hM : ∀ sz : Nat, Met l y ws rm (go_mP D w tys sz (.ref bA :: As)) (va_Qv (fun _ : Unit => True) (fun _ t => B9 (va_A w sz) t) (va_A w sz)) mc ms (va_A w sz)) (cw : CallB R s args own index y bytes maxL none ws rm mc ms n ∧ y.name = "<init>" ∧ (Cond.instanceMethod y).before args s = true) (hK : va_K D go_cl tys s) (hP : va_P D go_cl w H) (hD : va_D A w) (hA : ∀ q : Nat, H0.size ≤ q → A q) (hn : As.length = n) (hst : st0 = As.reverse ++ .ref bA :: rest) (hl : ls.size = nL) (hW : (rest.map fun v => v.category).sum ≤ 8) (hdg : decode cc pc = .ok (.invokespecial index, 3)) (hf : cells + mc ≤ R.cells ∧ slots + ms ≤ R.slots) (hS : va_S A H0 H locs)
    (kk : ∀ (t : State) (H1 : Heap) (locs1 : List Loc), t.heap = H1 → s.vm.Alike t.vm → B9 (va_A w H.size) t → (∀ q, va_A w H.size q → A q) → va_S A H0 H1 locs1 → (∀ w' : va_W, va_P D go_cl w' H → (∀ (k : Nat) (q : Nat × va_E), w'[k]? = some q → ∀ (k2 : Nat) (q2 : Nat × va_E), w[k2]? = some q2 → q.1 ≠ q2.1) → va_P D go_cl w' H1) → W p l e R s m args below meth c H1 locs1 (cells + mc) (slots + ms) Q (F0 m (pc + 3) ls rest)) : W p l e R s m args below meth c H locs cells slots Q (F0 m pc ls st0) := by
  obtain ⟨hx, hb, hml, -, -, hown, hts⟩ := X
  subst hst
  have hF : ∀ q, va_A w H.size q → A q := fun q h => by
    rcases h with ⟨k, e, h⟩ | h
    · exact hD.2 k (q, e) h
    · exact hA q (Nat.le_trans hS.1 h)
  refine va_callv (va_runI (As := As) (rest := rest) ⟨hx, hb, hml, hown, hts⟩ (hM H.size) cw ⟨go_mP_blind, fun U hU hW => ⟨rfl, by rw [hU], by rw [hU]; exact hP, va_K.moved hW.alike hK, hD.weaken (fun _ _ _ _ => trivial)⟩⟩ rfl hn hl rfl (lv_room hW) hdg hf) hS (fun q _ h => hF q h) hF (fun u t H1 locs1 ht hvm hw hB hz hk hS1 => ?_)
  exact kk t H1 locs1 ht hvm hB hF hS1 (fun w' hw' hap => hw'.kept (fun k q hq => hk q.1 (hw' k q hq).lt (fun h => by
    rcases h with ⟨k2, e2, h⟩ | h
    · exact hap k q hq k2 _ h rfl
    · exact absurd (hw' k q hq).lt (Nat.not_lt.mpr h))))
def go_a0 : go_A := (fun _ => 2, 0, fun _ _ => 2, 0, 0, fun _ => 0, fun _ => 0)
theorem go_a0_I : go_AI go_a0 := by
  refine ⟨fun j _ => Nat.le_refl 2, Nat.zero_le 40, fun i hi => absurd hi (Nat.not_lt_zero i), ?_, fun i hi => absurd hi (Nat.not_lt_zero i)⟩
  show 0 + 0 + go_ns (fun _ => 2) ≤ 49 + 0
  have := go_ns_le (fun _ => 2)
  omega
theorem go_a0_G : go_GI go_a0 0 0 0 (fun _ => 0) (fun _ => 0) (fun _ => 0) 0 0 := by
  refine ⟨⟨fun j => ⟨fun h => absurd h (go_m_0 j), fun h => ?_⟩, fun j => ⟨fun h => absurd h (go_m_0 j), fun h => ?_⟩⟩, rfl, fun i hi => absurd hi (Nat.not_lt_zero i), fun i hi => absurd hi (Nat.not_lt_zero i), rfl, rfl⟩
  · have h2 : (2 : Nat) = 0 := h.2
    exact absurd h2 (by decide)
  · have h2 : (2 : Nat) = 1 := h.2
    exact absurd h2 (by decide)
theorem go_a0_M {bd : Nat → Int32} (h : ∀ j, j < 49 → bd j = nI 2) : go_MI go_a0 bd (fun _ => 0) (fun _ => 0) (fun _ => 0) 0 (fun _ => 0) :=
  ⟨h, fun i hi => absurd hi (Nat.not_lt_zero i), fun i hi => absurd hi (Nat.not_lt_zero i), fun i hi => absurd hi (Nat.not_lt_zero i), rfl, rfl, rfl⟩
set_option maxHeartbeats 8000000 in
set_option maxRecDepth 100000 in
theorem whole_start {p : Program} {e : Env} {s : State} {m : MethodId} {below : List Frame} {meth : Method} {c : Code} (l : Launch) {b L : Nat} {xs : Nat → Int32} (hL : L ≤ 192) (C0 : lw_At p s m meth c b L xs) : W p l e room_1 s m #[Value.ref b] below meth c s.heap [] 0 0 (lw_Z below #[Value.ref b] s) (entryFrame m ([Value.ref b] : List Value).toArray 4) := by
  obtain ⟨hx, hb, hr, hml, hown, hts0, hX, hbl, hlocks, hgv⟩ := id C0
  have hts : ∀ w ∈ lw_all, w.before #[Value.ref b] s = true := fun w h => hts0 w (lw_all_tbl h)
  have X : go_Cx p s m #[Value.ref b] meth c code 4 ret R_law := ⟨hx, hb, hml, hr, hlocks, hown, hts⟩
  obtain ⟨A, eA⟩ : ∃ A : Nat → Prop, A = fun q : Nat => s.heap.size ≤ q := ⟨_, rfl⟩
  have hA : ∀ q : Nat, s.heap.size ≤ q → A q := fun q h => by rw [eA]; exact h
  obtain ⟨c0_, iS0, hKn0⟩ := u_known (C := RX0) (T := TX0) (N := 13) (n := 13) hts0 (fun w h => lw_all_tbl (in_X0 w h)) (hts _ q29)
  obtain ⟨c1_, iS1, hKn1⟩ := u_known (C := RX1) (T := TX1) (N := 9) (n := 9) hts0 (fun w h => lw_all_tbl (in_X1 w h)) (hts _ q189)
  obtain ⟨D, hKc⟩ : ∃ D : va_G, ∀ (k : Nat) (q : vw_C), go_cl[k]? = some q → u_Kn s q.1 q.2.1 q.2.2 (D.1 k) (D.2 k) := by
    refine ⟨(fun k => if k = 0 then c0_ else c1_, fun k => if k = 0 then iS0 else iS1), ?_⟩
    intro k q hq
    match k, hq with
    | 0, hq => cases hq; exact hKn0
    | 1, hq => cases hq; exact hKn1
    | k + 2, hq => simp [go_cl] at hq
  have hS : va_S A s.heap s.heap [] := va_S.rf
  have hK : va_K D go_cl [] s := ⟨hKc, fun k q h => by simp at h⟩
  have hP : va_P D go_cl [] s.heap := fun k q h => by simp at h
  have hD : va_D A [] := ⟨fun i j p q h => by simp at h, fun k q h => by simp at h⟩
  have hl := lv_entry ([.ref b]) (n := 4) (Nat.le_of_ble_eq_true rfl)
  rw [lg_entry_eq]
  generalize (lg_sl ([.ref b]) ++ List.replicate (4 - (lg_sl ([.ref b])).length) Slot.unset).toArray = ls at hl ⊢
  have hl : lv_has ls 4 [(0, .ref b)] := hl
  refine va_new (ci := 0) (fs := [.long 0, .long 0, .long 0, .long 0, .long 0, .int 0, .null, .null, .null, .int 0, .int 0, .long 0, .long 0]) (C := RX0) (T := TX0) (N := 13) hx hb hts in_X0 tyX0 tyX0_ok hown (hts _ q28) (hts _ q29) (hts _ q26) hK hP hD hS hA rfl (fun j hj => by rcases (show j = 0 ∨ j = 1 ∨ j = 2 ∨ j = 3 ∨ j = 4 ∨ j = 5 ∨ j = 6 ∨ j = 7 ∨ j = 8 ∨ j = 9 ∨ j = 10 ∨ j = 11 ∨ j = 12 by omega) with rfl | rfl | rfl | rfl | rfl | rfl | rfl | rfl | rfl | rfl | rfl | rfl | rfl <;> rfl) (Nat.le_of_ble_eq_true rfl) (Nat.le_of_ble_eq_true rfl) dL_law_0 (fun qG H hP hD hS => ?_)
  have hP : va_P D go_cl [(qG, .inr (0, [.long 0, .long 0, .long 0, .long 0, .long 0, .int 0, .null, .null, .null, .int 0, .int 0, .long 0, .long 0]))] H := hP
  have hD : va_D A [(qG, .inr (0, [.long 0, .long 0, .long 0, .long 0, .long 0, .int 0, .null, .null, .null, .int 0, .int 0, .long 0, .long 0]))] := hD
  refine W.widen (k := 1) (n := 13) (by omega) (by omega) ?_
  refine lv_dup hx hb dL_law_3 rfl ?_
  refine go_icV (As := []) (rest := [.ref qG]) (B9 := fun A t => ∃ (b : Nat → Nat) (cs : Nat → ClassId), b 0 = qG ∧ va_P D go_cl (go_G b cs 0 0 0 (fun _ => 0) (fun _ => 0) (fun _ => 0) 0 0 0 0) t.heap ∧ va_K D go_cl (go_Gt cs) t ∧ va_D A (go_G b cs 0 0 0 (fun _ => 0) (fun _ => 0) (fun _ => 0) 0 0 0 0)) X (gX0_init qG) (cwI 0 hts (lw_meth q32) rfl rfl rfl (hts _ q26) (hts _ q30) (hts _ q31) rfl (by decide +kernel) ⟨Nat.le_of_ble_eq_true rfl, Nat.le_of_ble_eq_true rfl⟩) hK hP hD hA rfl rfl hl.1 (Nat.le_of_ble_eq_true rfl) dL_law_4 ⟨Nat.le_of_ble_eq_true rfl, Nat.le_of_ble_eq_true rfl⟩ hS (fun t H1 locs ht hvm hB hF hS _ => ?_)
  obtain ⟨bG, cG, ebG, hPG, hKG, hDG0⟩ := hB
  rw [ht] at hPG
  have hKG := va_K.moved hvm.symm hKG
  have hDG : va_D A (go_G bG cG 0 0 0 (fun _ => 0) (fun _ => 0) (fun _ => 0) 0 0 0 0) := hDG0.weaken (fun k q _ h => hF q.1 h)
  clear hP hD hF ht hvm hDG0
  generalize H1 = H at hPG hS ⊢
  refine W.widen (k := 4) (n := 133) (by omega) (by omega) ?_
  refine lv_astore_n (lv' := [(1, .ref qG), (0, .ref b)]) hx hb dL_law_7 rfl hl (by decide) rfl (fun ls hl => ?_)
  refine va_new (ci := 1) (fs := [.null, .null, .null, .null, .int 0, .null, .null, .null, .null]) (C := RX1) (T := TX1) (N := 9) hx hb hts in_X1 tyX1 tyX1_ok hown (hts _ q188) (hts _ q189) (hts _ q27) hKG hPG hDG hS hA rfl (fun j hj => by rcases (show j = 0 ∨ j = 1 ∨ j = 2 ∨ j = 3 ∨ j = 4 ∨ j = 5 ∨ j = 6 ∨ j = 7 ∨ j = 8 by omega) with rfl | rfl | rfl | rfl | rfl | rfl | rfl | rfl | rfl <;> rfl) (Nat.le_of_ble_eq_true rfl) (Nat.le_of_ble_eq_true rfl) dL_law_8 (fun qM H hP hD hS => ?_)
  have hPG := hP.sub (ws' := go_G bG cG 0 0 0 (fun _ => 0) (fun _ => 0) (fun _ => 0) 0 0 0 0) [0, 1, 2, 3] rfl
  have hDG := hD.sub (ws' := go_G bG cG 0 0 0 (fun _ => 0) (fun _ => 0) (fun _ => 0) 0 0 0 0) [0, 1, 2, 3] (by decide) rfl
  have hPm := hP.sub (ws' := [(qM, .inr (1, [.null, .null, .null, .null, .int 0, .null, .null, .null, .null]))]) [4] rfl
  have hDm := hD.sub (ws' := [(qM, .inr (1, [.null, .null, .null, .null, .int 0, .null, .null, .null, .null]))]) [4] (by decide) rfl
  have hne : ∀ i, i < 4 → bG i ≠ qM := by
    intro i hi e9
    obtain ⟨e1, he1⟩ := go_G_at bG cG 0 0 0 (fun _ => 0) (fun _ => 0) (fun _ => 0) 0 0 0 0 hi
    have h1 : (go_G bG cG 0 0 0 (fun _ => 0) (fun _ => 0) (fun _ => 0) 0 0 0 0 ++ [(qM, .inr (1, [.null, .null, .null, .null, .int 0, .null, .null, .null, .null]))])[i]? = some (bG i, e1) := by
      rw [List.getElem?_append_left (by show i < 4; exact hi)]; exact he1
    have h2 : (go_G bG cG 0 0 0 (fun _ => 0) (fun _ => 0) (fun _ => 0) 0 0 0 0 ++ [(qM, .inr (1, [.null, .null, .null, .null, .int 0, .null, .null, .null, .null]))])[4]? = some (qM, .inr (1, [.null, .null, .null, .null, .int 0, .null, .null, .null, .null])) := rfl
    have h3 := hD.1 i 4 _ _ h1 h2 e9
    omega
  clear hP hD
  refine W.widen (k := 5) (n := 142) (by omega) (by omega) ?_
  refine lv_dup hx hb dL_law_11 rfl ?_
  refine go_icV (As := []) (rest := [.ref qM]) (B9 := fun A t => ∃ (b : Nat → Nat) (cs : Nat → ClassId) (bd : Nat → Int32), b 0 = qM ∧ (∀ j, j < 49 → bd j = nI 2) ∧ va_P D go_cl (go_M b cs bd (fun _ => 0) (fun _ => 0) (fun _ => 0) 0 (fun _ => 0) (fun _ => 0) (fun _ => 0) (fun _ => 0)) t.heap ∧ va_K D go_cl (go_Mt cs) t ∧ va_D A (go_M b cs bd (fun _ => 0) (fun _ => 0) (fun _ => 0) 0 (fun _ => 0) (fun _ => 0) (fun _ => 0) (fun _ => 0))) X (gX1_init qM) (cwI 0 hts (lw_meth q192) rfl rfl rfl (hts _ q27) (hts _ q190) (hts _ q191) rfl (by decide +kernel) ⟨Nat.le_of_ble_eq_true rfl, Nat.le_of_ble_eq_true rfl⟩) (hKG.sub (tys' := []) [] rfl) hPm hDm hA rfl rfl hl.1 (Nat.le_of_ble_eq_true rfl) dL_law_12 ⟨Nat.le_of_ble_eq_true rfl, Nat.le_of_ble_eq_true rfl⟩ hS (fun t H1 locs ht hvm hB hF hS hk => ?_)
  obtain ⟨bM, cM, bd, ebM, hbd, hPM, hKM, hDM0⟩ := hB
  have hap : ∀ i j, i < 4 → j < 9 → bG i ≠ bM j := by
    intro i j hi hj e9
    obtain ⟨e1, he1⟩ := go_G_at bG cG 0 0 0 (fun _ => 0) (fun _ => 0) (fun _ => 0) 0 0 0 0 hi
    obtain ⟨e2, he2⟩ := go_M_at bM cM bd (fun _ => 0) (fun _ => 0) (fun _ => 0) 0 (fun _ => 0) (fun _ => 0) (fun _ => 0) (fun _ => 0) hj
    have h1 : bG i < H.size := (hPG i _ he1).lt
    rcases hDM0.2 j _ he2 with ⟨k, e3, h3⟩ | h3
    · have hk0 : k < 1 := (List.getElem?_eq_some_iff.mp h3).1
      rw [show k = 0 by omega] at h3
      have h4 : qM = bM j := congrArg Prod.fst (Option.some.inj h3)
      exact hne i hi (e9.trans h4.symm)
    · have h3 : H.size ≤ bM j := h3
      omega
  have hPG := hk _ hPG (fun k q hq k2 q2 hq2 => by
    obtain ⟨a1, a2⟩ := go_G_of hq
    have hk0 : k2 < 1 := (List.getElem?_eq_some_iff.mp hq2).1
    rw [show k2 = 0 by omega] at hq2
    have h4 : qM = q2.1 := congrArg Prod.fst (Option.some.inj hq2)
    rw [a2, ← h4]
    exact hne k a1)
  rw [ht] at hPM
  have hKM := va_K.moved hvm.symm hKM
  have hDM : va_D A (go_M bM cM bd (fun _ => 0) (fun _ => 0) (fun _ => 0) 0 (fun _ => 0) (fun _ => 0) (fun _ => 0) (fun _ => 0)) := hDM0.weaken (fun k q _ h => hF q.1 h)
  clear hPm hDm hF ht hvm hk hDM0
  generalize H1 = H at hPG hPM hS ⊢
  refine W.widen (k := 13) (n := 2380) (by omega) (by omega) ?_
  refine lv_astore_n (lv' := [(2, .ref qM), (1, .ref qG), (0, .ref b)]) hx hb dL_law_15 rfl hl (by decide) rfl (fun ls hl => ?_)
  refine lv_iconst (v := nI 0) hx hb dL_law_16 (by decide) ?_
  refine lv_istore_n (lv' := [(3, .int (nI 0)), (2, .ref qM), (1, .ref qG), (0, .ref b)]) hx hb dL_law_17 rfl hl (by decide) rfl (fun ls hl => ?_)
  subst ebG
  subst ebM
  exact go_law hL C0 hap hKG hKM A eA (L + 1) 0 go_a0 0 0 0 (fun _ => 0) (fun _ => 0) (fun _ => 0) 0 0 0 0 bd (fun _ => 0) (fun _ => 0) (fun _ => 0) 0 (fun _ => 0) (fun _ => 0) (fun _ => 0) (fun _ => 0) (by omega) (by omega) go_a0_I go_a0_G (go_a0_M hbd) _ _ _ hPG hDG hPM hDM hS (lv_sub hl [3, 2, 1, 0] rfl)
end
section
set_option maxHeartbeats 4000000 in
theorem lw_walk (l : Launch) (b : Addr) (xs : List Int32) : MetFree l x (headSpec (Jvm.Cond.code x code maxLocals ret :: tables_1) room_1) (lw_P b xs) (fun _ _ _ _ _ => True) lw_Q := by
  refine MetFree.of_bodyS (code := code) (maxLocals := maxLocals) (ret := ret) (by decide) ?_ ?_
  · intro args s m h hn
    obtain ⟨meth, c, h1, h2, h3, h4, h5, h6, -, -⟩ := Cond.code_spec hn (atoms_spec (ws := Jvm.Cond.code x code maxLocals ret :: tables_1) h _ List.mem_cons_self)
    exact ⟨meth, c, h1, h2, h3, h4, h5, h6⟩
  · intro p e s m args below meth c s₁ B hml0 hP _
    obtain ⟨rfl, hx, hbd, hgv⟩ := hP
    obtain ⟨scr, harrAt, hlist, hof, hsmall⟩ := hx
    obtain ⟨hcb, hkn, -, -⟩ := State.arrayAt?_spec harrAt
    have hown : s.vm.findClass R_law = some m.cls := findClass_of_methodNamed B.named
    have hts0 : ∀ c ∈ (Jvm.Cond.code x code maxLocals ret :: tables_1), c.before #[Value.ref b] s = true := atoms_spec (ws := Jvm.Cond.code x code maxLocals ret :: tables_1) B.pre
    have hts : ∀ w ∈ lw_tbl, w.before #[Value.ref b] s = true := k2_hts_sels lw_privs (fun w hw => hts0 w (List.mem_cons_of_mem _ hw)) lw_privs_ok
    have hml : c.maxLocals = 4 := B.maxLocals_eq (hts0 _ List.mem_cons_self)
    have X₀ : Stand p l e room_1 s m #[Value.ref b] below meth c s₁ [] 0 0 := Stand.of_body B
    have hh0 : s₁.heap = s.heap := by rw [B.state]; rfl
    have hsz : scr.slots.size = xs.length := by rw [← Array.length_toList, hlist, List.length_map]
    have hval : ∀ j : Nat, j < xs.length → scr.slots[j]? = some (.int (xs.getD j 0)) := fun j hj => by
      rw [← Array.getElem?_toList, hlist]
      simp [hj]
    have hbl : b < s.heap.size := (Array.getElem?_eq_some_iff.mp hcb).1
    have hX : va_X b xs.length (fun j => xs.getD j 0) s s.heap := ⟨scr, hcb, hof, hkn, hsz, hval⟩
    have K : W p l e room_1 s m #[Value.ref b] below meth c s₁.heap [] 0 0 (lw_Z below #[Value.ref b] s) (entryFrame m ([Value.ref b] : List Value).toArray 4) := by
      rw [hh0]
      exact whole_start l hbd ⟨B.exec, B.bytes, B.returns, hml, hown, hts, hX, hbl, B.notSynchronized, hgv⟩
    obtain ⟨t, a1, o, b1, b2, b3⟩ := K s₁ rfl X₀
    exact ⟨t, o, a1, b1, b2, b3⟩
theorem lw_pre_spec {args : Array Value} {s : State} (h : (Jvm.Cond.and given_1 narrow_1).before args s = true) (hr : rest_1_c.before args s = true) : ∃ (b : Addr) (xs : List Int32), lw_P b xs args s := by
  have hs := flat_of_before _ h
  have hq := flat_of_before _ hr
  have hc : (Cond.count 1).before args s = true := hs _ (by decide +kernel)
  have harr : (Cond.arrayOf (.arg 0) .int).before args s = true := hs _ (by decide +kernel)
  have hle : (Cond.le (.length (.arg 0)) (.int 192)).before args s = true := hs _ (by decide +kernel)
  have hlen : (Cond.isInt (.length (.arg 0))).before args s = true := hq _ (by decide +kernel)
  have hall : (Cond.all (.arg 0) (.isInt (.elem (.arg 0) (.index 0)))).before args s = true := hq _ (by decide +kernel)
  obtain ⟨b, xs, hb, hx⟩ := State.ints_of_pre rfl harr hlen hall
  have hsm : xs.length < 2 ^ 31 := hx.choose_spec.2.2.2
  have hev : (Term.length (.arg 0)).eval args s none [] s = some (.int xs.length.toInt32) := hx.length_eval hb
  have hv := Cond.le_ints hev (show (Term.int 192).eval args s none [] s = some (.int 192) from rfl)
  have hd : xs.length.toInt32 ≤ 192 := by
    simpa [Cond.before, Cond.holds, hv] using hle
  have hN : xs.length ≤ 192 := (Int32.ofNat_le_ofNat hsm (by decide)).mp (show Int32.ofNat xs.length ≤ Int32.ofNat 192 from hd)
  exact ⟨b, xs, Cond.one_arg hc (show args[0]? = some (.ref b) from hb), hx, hN, h⟩
theorem lw_comes (l : Launch) : Comes l x (Jvm.Cond.code x code maxLocals ret :: tables_1) room_1 (fun tb e args s => Calls_1 tb e args s ∧ rest_1 tb e args s ∧ Pre_1 tb e args s)
    (fun _ _ args s o t => lw_Q args s o t) := by
  intro p e ha hc hk s m args below hf hfit hheap happ hpre
  obtain ⟨b, xs, hP⟩ := lw_pre_spec hpre.2.2 hpre.2.1
  obtain ⟨k, o, h1, h2, h3, hQ⟩ := lw_walk l b xs p e ha hc hk s m args below hf ((Spec.applies_iff_loose hf).mp happ).1 hP trivial
  exact ⟨k, o, h1, h2, h3, hQ⟩
theorem lw_frame {s t : State} {o : Outcome} {args : Array Value} (h : Framed s o t [] 600000 7290000) :
    Framed s o t (fieldLocs frame_1_writes args s ++ arrayLocs frame_1_arrays args s ++ staticLocs frame_1_statics s) 600000 7290000 := h
theorem lw_limb (L : Cond) (hL : ∀ (args : Array Value) (s t : State), L.after args s (.returned (some (.int 1))) t = true) :
    ArmFor flags0 classFile x code maxLocals ret World_1 tables_1 room_1 Calls_1 rest_1 Pre_1
      (fun tb e a s o t => postC L tb e a s o t ∧ Framed s o t (fieldLocs frame_1_writes a s ++ arrayLocs frame_1_arrays a s ++ staticLocs frame_1_statics s) 600000 7290000) := by
  intro l _ _ _ p e ha hc hk s m args below hf hfit hheap happ hpre
  obtain ⟨k, o, h1, h2, h3, rfl, hF⟩ := lw_comes l p e ha hc hk s m args below hf hfit hheap happ hpre
  exact ⟨k, _, h1, h2, h3, hL args s _, lw_frame hF⟩
theorem i_vc : Claimed_1_1 ∧ Claimed_1_2 := ⟨lw_limb limb_1_1 (fun args s t => by simp [limb_1_1, Cond.after, Cond.holds, Cond.value]), lw_limb limb_1_2 (fun args s t => Cond.after_iff.mpr (by
  first | (rw [show limb_1_2 = Cond.eq .result (.int 1) from rfl, Cond.eq_ints (x := 1) (y := 1) rfl rfl]; simp; done) | (simp [limb_1_2, Cond.value, Term.eval]; done)))⟩
end
