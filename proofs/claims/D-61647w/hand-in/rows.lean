section
-- ===== PART A: goes FIRST, ahead of the names: the tables' words, and 'selects' of the private methods out of them =====
/-- a private method of a class that the tables say can be made, by its rows of tables_1 -/
def lw_okq (q : MethodName × Nat) : Prop := (q.1.cls ≠ "java/lang/invoke/MethodHandle" ∧ q.1.cls ≠ "java/lang/invoke/VarHandle") ∧ Cond.instantiable q.1.cls q.2 ∈ tables_1 ∧ Cond.privateMethod q.1 ∈ tables_1 ∧ Cond.instanceMethod q.1 ∈ tables_1
set_option maxRecDepth 100000
theorem lw_t1 {w : Cond} (h : w ∈ tables_1_1) : w ∈ tables_1 := List.mem_append_left _ h
theorem lw_t2 {w : Cond} (h : w ∈ tables_1_2) : w ∈ tables_1 := List.mem_append_right _ h
theorem lw_p0 : lw_okq (⟨"SharedDiskFs", "readBlock", "(II)I"⟩, 13) := ⟨⟨by decide +kernel, by decide +kernel⟩, lw_t1 (List.mem_of_getElem? (i := 4) rfl), lw_t1 (List.mem_of_getElem? (i := 64) rfl), lw_t1 (List.mem_of_getElem? (i := 65) rfl)⟩
theorem lw_p1 : lw_okq (⟨"SharedDiskFs", "take", "(III)V"⟩, 13) := ⟨⟨by decide +kernel, by decide +kernel⟩, lw_t1 (List.mem_of_getElem? (i := 4) rfl), lw_t1 (List.mem_of_getElem? (i := 68) rfl), lw_t1 (List.mem_of_getElem? (i := 69) rfl)⟩
theorem lw_p2 : lw_okq (⟨"SharedDiskFs", "stepBack", "(III)V"⟩, 13) := ⟨⟨by decide +kernel, by decide +kernel⟩, lw_t1 (List.mem_of_getElem? (i := 4) rfl), lw_t1 (List.mem_of_getElem? (i := 72) rfl), lw_t1 (List.mem_of_getElem? (i := 73) rfl)⟩
theorem lw_p3 : lw_okq (⟨"SharedDiskFs", "isUnsafe", "(II)Z"⟩, 13) := ⟨⟨by decide +kernel, by decide +kernel⟩, lw_t1 (List.mem_of_getElem? (i := 4) rfl), lw_t1 (List.mem_of_getElem? (i := 76) rfl), lw_t1 (List.mem_of_getElem? (i := 77) rfl)⟩
theorem lw_p4 : lw_okq (⟨"SharedDiskFs", "journaled", "(II)I"⟩, 13) := ⟨⟨by decide +kernel, by decide +kernel⟩, lw_t1 (List.mem_of_getElem? (i := 4) rfl), lw_t1 (List.mem_of_getElem? (i := 80) rfl), lw_t1 (List.mem_of_getElem? (i := 81) rfl)⟩
theorem lw_p5 : lw_okq (⟨"SharedDiskFs", "cached", "(II)I"⟩, 13) := ⟨⟨by decide +kernel, by decide +kernel⟩, lw_t1 (List.mem_of_getElem? (i := 4) rfl), lw_t1 (List.mem_of_getElem? (i := 84) rfl), lw_t1 (List.mem_of_getElem? (i := 85) rfl)⟩
theorem lw_p6 : lw_okq (⟨"SharedDiskFs", "makeSafe", "(I)I"⟩, 13) := ⟨⟨by decide +kernel, by decide +kernel⟩, lw_t1 (List.mem_of_getElem? (i := 4) rfl), lw_t1 (List.mem_of_getElem? (i := 88) rfl), lw_t1 (List.mem_of_getElem? (i := 89) rfl)⟩
theorem lw_p7 : lw_okq (⟨"SharedDiskFs", "unsafeCount", "(I)I"⟩, 13) := ⟨⟨by decide +kernel, by decide +kernel⟩, lw_t1 (List.mem_of_getElem? (i := 4) rfl), lw_t1 (List.mem_of_getElem? (i := 92) rfl), lw_t1 (List.mem_of_getElem? (i := 93) rfl)⟩
theorem lw_p8 : lw_okq (⟨"SharedDiskFs", "fillJournal", "(I)V"⟩, 13) := ⟨⟨by decide +kernel, by decide +kernel⟩, lw_t1 (List.mem_of_getElem? (i := 4) rfl), lw_t1 (List.mem_of_getElem? (i := 96) rfl), lw_t1 (List.mem_of_getElem? (i := 97) rfl)⟩
theorem lw_p9 : lw_okq (⟨"SharedDiskFs", "writeJournal", "(III)V"⟩, 13) := ⟨⟨by decide +kernel, by decide +kernel⟩, lw_t1 (List.mem_of_getElem? (i := 4) rfl), lw_t1 (List.mem_of_getElem? (i := 100) rfl), lw_t1 (List.mem_of_getElem? (i := 101) rfl)⟩
theorem lw_p10 : lw_okq (⟨"SharedDiskFs", "markJournal", "(I)V"⟩, 13) := ⟨⟨by decide +kernel, by decide +kernel⟩, lw_t1 (List.mem_of_getElem? (i := 4) rfl), lw_t1 (List.mem_of_getElem? (i := 104) rfl), lw_t1 (List.mem_of_getElem? (i := 105) rfl)⟩
theorem lw_p11 : lw_okq (⟨"SharedDiskFs", "sumOf", "(I)I"⟩, 13) := ⟨⟨by decide +kernel, by decide +kernel⟩, lw_t1 (List.mem_of_getElem? (i := 4) rfl), lw_t1 (List.mem_of_getElem? (i := 108) rfl), lw_t1 (List.mem_of_getElem? (i := 109) rfl)⟩
theorem lw_p12 : lw_okq (⟨"SharedDiskFs", "bringHome", "(I)V"⟩, 13) := ⟨⟨by decide +kernel, by decide +kernel⟩, lw_t1 (List.mem_of_getElem? (i := 4) rfl), lw_t1 (List.mem_of_getElem? (i := 112) rfl), lw_t1 (List.mem_of_getElem? (i := 113) rfl)⟩
theorem lw_p13 : lw_okq (⟨"SharedDiskFs", "emptyJournal", "(I)V"⟩, 13) := ⟨⟨by decide +kernel, by decide +kernel⟩, lw_t1 (List.mem_of_getElem? (i := 4) rfl), lw_t1 (List.mem_of_getElem? (i := 116) rfl), lw_t1 (List.mem_of_getElem? (i := 117) rfl)⟩
theorem lw_p14 : lw_okq (⟨"SharedDiskFs", "forget", "(II)V"⟩, 13) := ⟨⟨by decide +kernel, by decide +kernel⟩, lw_t1 (List.mem_of_getElem? (i := 4) rfl), lw_t1 (List.mem_of_getElem? (i := 120) rfl), lw_t1 (List.mem_of_getElem? (i := 121) rfl)⟩
theorem lw_p15 : lw_okq (⟨"SharedDiskFs", "dropCell", "(I)V"⟩, 13) := ⟨⟨by decide +kernel, by decide +kernel⟩, lw_t1 (List.mem_of_getElem? (i := 4) rfl), lw_t1 (List.mem_of_getElem? (i := 124) rfl), lw_t1 (List.mem_of_getElem? (i := 125) rfl)⟩
def lw_privs_1 : List (MethodName × Nat) := [(⟨"SharedDiskFs", "readBlock", "(II)I"⟩, 13), (⟨"SharedDiskFs", "take", "(III)V"⟩, 13), (⟨"SharedDiskFs", "stepBack", "(III)V"⟩, 13), (⟨"SharedDiskFs", "isUnsafe", "(II)Z"⟩, 13), (⟨"SharedDiskFs", "journaled", "(II)I"⟩, 13), (⟨"SharedDiskFs", "cached", "(II)I"⟩, 13), (⟨"SharedDiskFs", "makeSafe", "(I)I"⟩, 13), (⟨"SharedDiskFs", "unsafeCount", "(I)I"⟩, 13), (⟨"SharedDiskFs", "fillJournal", "(I)V"⟩, 13), (⟨"SharedDiskFs", "writeJournal", "(III)V"⟩, 13), (⟨"SharedDiskFs", "markJournal", "(I)V"⟩, 13), (⟨"SharedDiskFs", "sumOf", "(I)I"⟩, 13), (⟨"SharedDiskFs", "bringHome", "(I)V"⟩, 13), (⟨"SharedDiskFs", "emptyJournal", "(I)V"⟩, 13), (⟨"SharedDiskFs", "forget", "(II)V"⟩, 13), (⟨"SharedDiskFs", "dropCell", "(I)V"⟩, 13)]
theorem lw_r1 : ∀ q ∈ lw_privs_1, lw_okq q := List.forall_mem_cons.mpr ⟨lw_p0, List.forall_mem_cons.mpr ⟨lw_p1, List.forall_mem_cons.mpr ⟨lw_p2, List.forall_mem_cons.mpr ⟨lw_p3, List.forall_mem_cons.mpr ⟨lw_p4, List.forall_mem_cons.mpr ⟨lw_p5, List.forall_mem_cons.mpr ⟨lw_p6, List.forall_mem_cons.mpr ⟨lw_p7, List.forall_mem_cons.mpr ⟨lw_p8, List.forall_mem_cons.mpr ⟨lw_p9, List.forall_mem_cons.mpr ⟨lw_p10, List.forall_mem_cons.mpr ⟨lw_p11, List.forall_mem_cons.mpr ⟨lw_p12, List.forall_mem_cons.mpr ⟨lw_p13, List.forall_mem_cons.mpr ⟨lw_p14, List.forall_mem_cons.mpr ⟨lw_p15, fun _ h => absurd h List.not_mem_nil⟩⟩⟩⟩⟩⟩⟩⟩⟩⟩⟩⟩⟩⟩⟩⟩
theorem lw_p16 : lw_okq (⟨"SharedDiskFs", "bringIn", "(II)I"⟩, 13) := ⟨⟨by decide +kernel, by decide +kernel⟩, lw_t1 (List.mem_of_getElem? (i := 4) rfl), lw_t1 (List.mem_of_getElem? (i := 128) rfl), lw_t1 (List.mem_of_getElem? (i := 129) rfl)⟩
theorem lw_p17 : lw_okq (⟨"SharedDiskFs", "freeCell", "(I)I"⟩, 13) := ⟨⟨by decide +kernel, by decide +kernel⟩, lw_t1 (List.mem_of_getElem? (i := 4) rfl), lw_t1 (List.mem_of_getElem? (i := 132) rfl), lw_t1 (List.mem_of_getElem? (i := 133) rfl)⟩
theorem lw_p18 : lw_okq (⟨"SharedDiskFs", "writeBlock", "(III)V"⟩, 13) := ⟨⟨by decide +kernel, by decide +kernel⟩, lw_t1 (List.mem_of_getElem? (i := 4) rfl), lw_t1 (List.mem_of_getElem? (i := 140) rfl), lw_t1 (List.mem_of_getElem? (i := 141) rfl)⟩
theorem lw_p19 : lw_okq (⟨"SharedDiskFs", "die", "(I)V"⟩, 13) := ⟨⟨by decide +kernel, by decide +kernel⟩, lw_t1 (List.mem_of_getElem? (i := 4) rfl), lw_t1 (List.mem_of_getElem? (i := 156) rfl), lw_t1 (List.mem_of_getElem? (i := 157) rfl)⟩
theorem lw_p20 : lw_okq (⟨"SharedDiskFs", "whole", "(I)Z"⟩, 13) := ⟨⟨by decide +kernel, by decide +kernel⟩, lw_t1 (List.mem_of_getElem? (i := 4) rfl), lw_t1 (List.mem_of_getElem? (i := 160) rfl), lw_t1 (List.mem_of_getElem? (i := 161) rfl)⟩
theorem lw_p21 : lw_okq (⟨"SharedDiskFs", "ownerOf", "(I)I"⟩, 13) := ⟨⟨by decide +kernel, by decide +kernel⟩, lw_t1 (List.mem_of_getElem? (i := 4) rfl), lw_t1 (List.mem_of_getElem? (i := 180) rfl), lw_t1 (List.mem_of_getElem? (i := 181) rfl)⟩
theorem lw_p22 : lw_okq (⟨"SharedDiskFsModel", "refusal", "(III)I"⟩, 4) := ⟨⟨by decide +kernel, by decide +kernel⟩, lw_t1 (List.mem_of_getElem? (i := 203) rfl), lw_t1 (List.mem_of_getElem? (i := 226) rfl), lw_t1 (List.mem_of_getElem? (i := 227) rfl)⟩
theorem lw_p23 : lw_okq (⟨"SharedDiskFsModel", "isNode", "(I)Z"⟩, 4) := ⟨⟨by decide +kernel, by decide +kernel⟩, lw_t1 (List.mem_of_getElem? (i := 203) rfl), lw_t1 (List.mem_of_getElem? (i := 230) rfl), lw_t1 (List.mem_of_getElem? (i := 231) rfl)⟩
theorem lw_p24 : lw_okq (⟨"SharedDiskFsModel", "isBlock", "(I)Z"⟩, 4) := ⟨⟨by decide +kernel, by decide +kernel⟩, lw_t1 (List.mem_of_getElem? (i := 203) rfl), lw_t1 (List.mem_of_getElem? (i := 234) rfl), lw_t1 (List.mem_of_getElem? (i := 235) rfl)⟩
theorem lw_p25 : lw_okq (⟨"SharedDiskFsModel", "takeFromOthers", "(II)V"⟩, 4) := ⟨⟨by decide +kernel, by decide +kernel⟩, lw_t1 (List.mem_of_getElem? (i := 203) rfl), lw_t1 (List.mem_of_getElem? (i := 238) rfl), lw_t1 (List.mem_of_getElem? (i := 239) rfl)⟩
theorem lw_p26 : lw_okq (⟨"SharedDiskFsModel", "settle", "(IZ)I"⟩, 4) := ⟨⟨by decide +kernel, by decide +kernel⟩, lw_t1 (List.mem_of_getElem? (i := 203) rfl), lw_t2 (List.mem_of_getElem? (i := 2) rfl), lw_t2 (List.mem_of_getElem? (i := 3) rfl)⟩
def lw_privs_2 : List (MethodName × Nat) := [(⟨"SharedDiskFs", "bringIn", "(II)I"⟩, 13), (⟨"SharedDiskFs", "freeCell", "(I)I"⟩, 13), (⟨"SharedDiskFs", "writeBlock", "(III)V"⟩, 13), (⟨"SharedDiskFs", "die", "(I)V"⟩, 13), (⟨"SharedDiskFs", "whole", "(I)Z"⟩, 13), (⟨"SharedDiskFs", "ownerOf", "(I)I"⟩, 13), (⟨"SharedDiskFsModel", "refusal", "(III)I"⟩, 4), (⟨"SharedDiskFsModel", "isNode", "(I)Z"⟩, 4), (⟨"SharedDiskFsModel", "isBlock", "(I)Z"⟩, 4), (⟨"SharedDiskFsModel", "takeFromOthers", "(II)V"⟩, 4), (⟨"SharedDiskFsModel", "settle", "(IZ)I"⟩, 4)]
theorem lw_r2 : ∀ q ∈ lw_privs_2, lw_okq q := List.forall_mem_cons.mpr ⟨lw_p16, List.forall_mem_cons.mpr ⟨lw_p17, List.forall_mem_cons.mpr ⟨lw_p18, List.forall_mem_cons.mpr ⟨lw_p19, List.forall_mem_cons.mpr ⟨lw_p20, List.forall_mem_cons.mpr ⟨lw_p21, List.forall_mem_cons.mpr ⟨lw_p22, List.forall_mem_cons.mpr ⟨lw_p23, List.forall_mem_cons.mpr ⟨lw_p24, List.forall_mem_cons.mpr ⟨lw_p25, List.forall_mem_cons.mpr ⟨lw_p26, fun _ h => absurd h List.not_mem_nil⟩⟩⟩⟩⟩⟩⟩⟩⟩⟩⟩
def lw_privs : List (MethodName × Nat) := lw_privs_1 ++ (lw_privs_2)
def lw_tbl : List Cond := k2_sels lw_privs ++ tables_1
theorem lw_privs_ok : ∀ q ∈ lw_privs, lw_okq q := by
  show ∀ q ∈ lw_privs_1 ++ (lw_privs_2), lw_okq q
  exact List.forall_mem_append.mpr ⟨lw_r1, lw_r2⟩
-- ===== ONE list of words for every method: the tables' words that hold all through a run =====
def lw_all : List Cond := lw_tbl.filter goodWord
/-- a word of the tables by its place: claim/WORDS.tsv -/
theorem lw_w {w : Cond} (i : Nat) (h : lw_tbl[i]? = some w) (g : goodWord w = true) : w ∈ lw_all := List.mem_filter.mpr ⟨List.mem_of_getElem? h, g⟩
theorem lw_all_tbl {w : Cond} (h : w ∈ lw_all) : w ∈ lw_tbl := (List.mem_filter.mp h).1
theorem lw_self : GoodIn lw_all lw_all := fun w h => ⟨h, good_of_word (List.mem_filter.mp h).2⟩
/-- a class's field words, by their places -/
theorem lw_in (ws : List Cond) (ps : List Nat) (hp : ws = ps.filterMap (fun i => lw_tbl[i]?)) (hg : ws.all goodWord = true) : ∀ w ∈ ws, w ∈ lw_all := by
  intro w h
  have h1 := List.all_eq_true.mp hg w h
  rw [hp] at h
  obtain ⟨i, -, hi⟩ := List.mem_filterMap.mp h
  exact lw_w i hi h1
/-- the words of a contract for the method y with code b, L locals, answer r -/
abbrev ws_ (y : MethodName) (b : ByteArray) (L : Nat) (r : Option FieldType) : List Cond := Cond.code y b L r :: lw_all
theorem lw_meth {y : MethodName} {b : ByteArray} {L : Nat} {r : Option FieldType} (h : Cond.code y b L r ∈ lw_all) : GoodIn lw_all (ws_ y b L r) := by
  intro w hw
  rcases List.mem_cons.mp hw with e | e
  · rw [e]
    exact lw_self _ h
  · exact lw_self _ e
theorem lw_app {a c : List Cond} (ha : ∀ w ∈ a, w ∈ lw_all) (hc : GoodIn lw_all c) : GoodIn lw_all (a ++ c) := by
  intro w hw
  rcases List.mem_append.mp hw with e | e
  · exact lw_self w (ha w e)
  · exact hc w e
/-- what a call through an object asks: cwV n hts (lw_V ..) -/
theorem lw_V {own : String} {idx : Nat} {C : String} {y : MethodName} {b : ByteArray} {L : Nat} {r : Option FieldType} (h1 : Cond.methodLink own idx y ∈ lw_all) (h2 : Cond.instanceMethod y ∈ lw_all) (h3 : Cond.selects C y y ∈ lw_all) (h4 : Cond.initialized C ∈ lw_all) (h5 : Cond.code y b L r ∈ lw_all) : GoodIn lw_all (wsV own idx C y (ws_ y b L r)) := by
  refine lw_app ?_ (lw_meth h5)
  intro w hw
  simp only [List.mem_cons, List.not_mem_nil, or_false] at hw
  rcases hw with e | e | e | e
  · rw [e]; exact h1
  · rw [e]; exact h2
  · rw [e]; exact h3
  · rw [e]; exact h4
/-- what a static call asks: va_cwS n hts (lw_S ..) -/
theorem lw_S {own : String} {idx : Nat} {y : MethodName} {b : ByteArray} {L : Nat} {r : Option FieldType} (h1 : Cond.methodLink own idx y ∈ lw_all) (h2 : Cond.static y ∈ lw_all) (h3 : Cond.initialized y.cls ∈ lw_all) (h4 : Cond.code y b L r ∈ lw_all) : GoodIn lw_all (va_wsS own idx y (ws_ y b L r)) := by
  refine lw_app ?_ (lw_meth h4)
  intro w hw
  simp only [List.mem_cons, List.not_mem_nil, or_false] at hw
  rcases hw with e | e | e
  · rw [e]; exact h1
  · rw [e]; exact h2
  · rw [e]; exact h3
/-- the words of a contract for a method WITH HANDLERS (hh: its table) -/
abbrev wsW_ (y : MethodName) (b : ByteArray) (L : Nat) (r : Option FieldType) (hh : List (Nat × Nat × Nat × Nat)) : List Cond := Cond.codeWith y b L r hh :: lw_all
theorem lw_methW {y : MethodName} {b : ByteArray} {L : Nat} {r : Option FieldType} {hh : List (Nat × Nat × Nat × Nat)} (h : Cond.codeWith y b L r hh ∈ lw_all) : GoodIn lw_all (wsW_ y b L r hh) := by
  intro w hw
  rcases List.mem_cons.mp hw with e | e
  · rw [e]
    exact lw_self _ h
  · exact lw_self _ e
/-- any list of words by their places (lw_in), good -/
theorem lw_good {ws : List Cond} (h : ∀ w ∈ ws, w ∈ lw_all) : GoodIn lw_all ws := fun w hw => lw_self w (h w hw)
/-- what a call of a method with handlers asks: vx_cwVW n hts (lw_VW ..), vx_cwSW n hts (lw_SW ..) -/
theorem lw_VW {own : String} {idx : Nat} {C : String} {y : MethodName} {b : ByteArray} {L : Nat} {r : Option FieldType} {hh : List (Nat × Nat × Nat × Nat)} (h1 : Cond.methodLink own idx y ∈ lw_all) (h2 : Cond.instanceMethod y ∈ lw_all) (h3 : Cond.selects C y y ∈ lw_all) (h4 : Cond.initialized C ∈ lw_all) (h5 : Cond.codeWith y b L r hh ∈ lw_all) : GoodIn lw_all (wsV own idx C y (wsW_ y b L r hh)) := by
  refine lw_app ?_ (lw_methW h5)
  intro w hw
  simp only [List.mem_cons, List.not_mem_nil, or_false] at hw
  rcases hw with e | e | e | e
  · rw [e]; exact h1
  · rw [e]; exact h2
  · rw [e]; exact h3
  · rw [e]; exact h4
theorem lw_SW {own : String} {idx : Nat} {y : MethodName} {b : ByteArray} {L : Nat} {r : Option FieldType} {hh : List (Nat × Nat × Nat × Nat)} (h1 : Cond.methodLink own idx y ∈ lw_all) (h2 : Cond.static y ∈ lw_all) (h3 : Cond.initialized y.cls ∈ lw_all) (h4 : Cond.codeWith y b L r hh ∈ lw_all) : GoodIn lw_all (va_wsS own idx y (wsW_ y b L r hh)) := by
  refine lw_app ?_ (lw_methW h4)
  intro w hw
  simp only [List.mem_cons, List.not_mem_nil, or_false] at hw
  rcases hw with e | e | e
  · rw [e]; exact h1
  · rw [e]; exact h2
  · rw [e]; exact h3
/-- a word by its place in its run of the tables -/
theorem lw_at {r : List Cond} (hr : ∀ w ∈ r, w ∈ lw_tbl) {w : Cond} (i : Nat) (h : r[i]? = some w) : w ∈ lw_tbl := hr w (List.mem_of_getElem? h)
theorem lw_g {w : Cond} (h : w ∈ lw_tbl) (g : goodWord w = true) : w ∈ lw_all := List.mem_filter.mpr ⟨h, g⟩
theorem lw_ms : ∀ w ∈ k2_sels lw_privs, w ∈ lw_tbl := fun w h => show w ∈ k2_sels lw_privs ++ tables_1 from List.mem_append_left _ h
theorem lw_m1 : ∀ w ∈ tables_1_1, w ∈ lw_tbl := fun w h => show w ∈ k2_sels lw_privs ++ tables_1 from List.mem_append_right (k2_sels lw_privs) (show w ∈ tables_1 from List.mem_append_left _ h)
theorem lw_m2 : ∀ w ∈ tables_1_2, w ∈ lw_tbl := fun w h => show w ∈ k2_sels lw_privs ++ tables_1 from List.mem_append_right (k2_sels lw_privs) (show w ∈ tables_1 from List.mem_append_right _ h)
theorem qs0 : (Cond.selects "SharedDiskFs" ⟨"SharedDiskFs", "readBlock", "(II)I"⟩ ⟨"SharedDiskFs", "readBlock", "(II)I"⟩) ∈ lw_all := lw_g (lw_at lw_ms 0 rfl) rfl
theorem qs1 : (Cond.selects "SharedDiskFs" ⟨"SharedDiskFs", "take", "(III)V"⟩ ⟨"SharedDiskFs", "take", "(III)V"⟩) ∈ lw_all := lw_g (lw_at lw_ms 1 rfl) rfl
theorem qs2 : (Cond.selects "SharedDiskFs" ⟨"SharedDiskFs", "stepBack", "(III)V"⟩ ⟨"SharedDiskFs", "stepBack", "(III)V"⟩) ∈ lw_all := lw_g (lw_at lw_ms 2 rfl) rfl
theorem qs3 : (Cond.selects "SharedDiskFs" ⟨"SharedDiskFs", "isUnsafe", "(II)Z"⟩ ⟨"SharedDiskFs", "isUnsafe", "(II)Z"⟩) ∈ lw_all := lw_g (lw_at lw_ms 3 rfl) rfl
theorem qs4 : (Cond.selects "SharedDiskFs" ⟨"SharedDiskFs", "journaled", "(II)I"⟩ ⟨"SharedDiskFs", "journaled", "(II)I"⟩) ∈ lw_all := lw_g (lw_at lw_ms 4 rfl) rfl
theorem qs5 : (Cond.selects "SharedDiskFs" ⟨"SharedDiskFs", "cached", "(II)I"⟩ ⟨"SharedDiskFs", "cached", "(II)I"⟩) ∈ lw_all := lw_g (lw_at lw_ms 5 rfl) rfl
theorem qs6 : (Cond.selects "SharedDiskFs" ⟨"SharedDiskFs", "makeSafe", "(I)I"⟩ ⟨"SharedDiskFs", "makeSafe", "(I)I"⟩) ∈ lw_all := lw_g (lw_at lw_ms 6 rfl) rfl
theorem qs7 : (Cond.selects "SharedDiskFs" ⟨"SharedDiskFs", "unsafeCount", "(I)I"⟩ ⟨"SharedDiskFs", "unsafeCount", "(I)I"⟩) ∈ lw_all := lw_g (lw_at lw_ms 7 rfl) rfl
theorem qs8 : (Cond.selects "SharedDiskFs" ⟨"SharedDiskFs", "fillJournal", "(I)V"⟩ ⟨"SharedDiskFs", "fillJournal", "(I)V"⟩) ∈ lw_all := lw_g (lw_at lw_ms 8 rfl) rfl
theorem qs9 : (Cond.selects "SharedDiskFs" ⟨"SharedDiskFs", "writeJournal", "(III)V"⟩ ⟨"SharedDiskFs", "writeJournal", "(III)V"⟩) ∈ lw_all := lw_g (lw_at lw_ms 9 rfl) rfl
theorem qs10 : (Cond.selects "SharedDiskFs" ⟨"SharedDiskFs", "markJournal", "(I)V"⟩ ⟨"SharedDiskFs", "markJournal", "(I)V"⟩) ∈ lw_all := lw_g (lw_at lw_ms 10 rfl) rfl
theorem qs11 : (Cond.selects "SharedDiskFs" ⟨"SharedDiskFs", "sumOf", "(I)I"⟩ ⟨"SharedDiskFs", "sumOf", "(I)I"⟩) ∈ lw_all := lw_g (lw_at lw_ms 11 rfl) rfl
theorem qs12 : (Cond.selects "SharedDiskFs" ⟨"SharedDiskFs", "bringHome", "(I)V"⟩ ⟨"SharedDiskFs", "bringHome", "(I)V"⟩) ∈ lw_all := lw_g (lw_at lw_ms 12 rfl) rfl
theorem qs13 : (Cond.selects "SharedDiskFs" ⟨"SharedDiskFs", "emptyJournal", "(I)V"⟩ ⟨"SharedDiskFs", "emptyJournal", "(I)V"⟩) ∈ lw_all := lw_g (lw_at lw_ms 13 rfl) rfl
theorem qs14 : (Cond.selects "SharedDiskFs" ⟨"SharedDiskFs", "forget", "(II)V"⟩ ⟨"SharedDiskFs", "forget", "(II)V"⟩) ∈ lw_all := lw_g (lw_at lw_ms 14 rfl) rfl
theorem qs15 : (Cond.selects "SharedDiskFs" ⟨"SharedDiskFs", "dropCell", "(I)V"⟩ ⟨"SharedDiskFs", "dropCell", "(I)V"⟩) ∈ lw_all := lw_g (lw_at lw_ms 15 rfl) rfl
theorem qs16 : (Cond.selects "SharedDiskFs" ⟨"SharedDiskFs", "bringIn", "(II)I"⟩ ⟨"SharedDiskFs", "bringIn", "(II)I"⟩) ∈ lw_all := lw_g (lw_at lw_ms 16 rfl) rfl
theorem qs17 : (Cond.selects "SharedDiskFs" ⟨"SharedDiskFs", "freeCell", "(I)I"⟩ ⟨"SharedDiskFs", "freeCell", "(I)I"⟩) ∈ lw_all := lw_g (lw_at lw_ms 17 rfl) rfl
theorem qs18 : (Cond.selects "SharedDiskFs" ⟨"SharedDiskFs", "writeBlock", "(III)V"⟩ ⟨"SharedDiskFs", "writeBlock", "(III)V"⟩) ∈ lw_all := lw_g (lw_at lw_ms 18 rfl) rfl
theorem qs19 : (Cond.selects "SharedDiskFs" ⟨"SharedDiskFs", "die", "(I)V"⟩ ⟨"SharedDiskFs", "die", "(I)V"⟩) ∈ lw_all := lw_g (lw_at lw_ms 19 rfl) rfl
theorem qs20 : (Cond.selects "SharedDiskFs" ⟨"SharedDiskFs", "whole", "(I)Z"⟩ ⟨"SharedDiskFs", "whole", "(I)Z"⟩) ∈ lw_all := lw_g (lw_at lw_ms 20 rfl) rfl
theorem qs21 : (Cond.selects "SharedDiskFs" ⟨"SharedDiskFs", "ownerOf", "(I)I"⟩ ⟨"SharedDiskFs", "ownerOf", "(I)I"⟩) ∈ lw_all := lw_g (lw_at lw_ms 21 rfl) rfl
theorem qs22 : (Cond.selects "SharedDiskFsModel" ⟨"SharedDiskFsModel", "refusal", "(III)I"⟩ ⟨"SharedDiskFsModel", "refusal", "(III)I"⟩) ∈ lw_all := lw_g (lw_at lw_ms 22 rfl) rfl
theorem qs23 : (Cond.selects "SharedDiskFsModel" ⟨"SharedDiskFsModel", "isNode", "(I)Z"⟩ ⟨"SharedDiskFsModel", "isNode", "(I)Z"⟩) ∈ lw_all := lw_g (lw_at lw_ms 23 rfl) rfl
theorem qs24 : (Cond.selects "SharedDiskFsModel" ⟨"SharedDiskFsModel", "isBlock", "(I)Z"⟩ ⟨"SharedDiskFsModel", "isBlock", "(I)Z"⟩) ∈ lw_all := lw_g (lw_at lw_ms 24 rfl) rfl
theorem qs25 : (Cond.selects "SharedDiskFsModel" ⟨"SharedDiskFsModel", "takeFromOthers", "(II)V"⟩ ⟨"SharedDiskFsModel", "takeFromOthers", "(II)V"⟩) ∈ lw_all := lw_g (lw_at lw_ms 25 rfl) rfl
theorem qs26 : (Cond.selects "SharedDiskFsModel" ⟨"SharedDiskFsModel", "settle", "(IZ)I"⟩ ⟨"SharedDiskFsModel", "settle", "(IZ)I"⟩) ∈ lw_all := lw_g (lw_at lw_ms 26 rfl) rfl
/-- the name of the method whose name is a word that rows may not hold: taken out of the Statement's own tables -/
def yOf : Cond → MethodName
  | .code y _ _ _ => y
  | _ => ⟨"", "", ""⟩
def nmU : String := (yOf (tables_1_1.getD 194 Cond.tt)).name
end
section
/-! SharedDiskFs -/
set_option maxRecDepth 100000
def RX1 : String := "SharedDiskFs"
def TX1 : u_T := fun k => match k with
  | 0 => ("SharedDiskFs", "room", "I", true)
  | 1 => ("SharedDiskFs", "running", "[Z", true)
  | 2 => ("SharedDiskFs", "home", "[I", true)
  | 3 => ("SharedDiskFs", "journalCount", "[I", true)
  | 4 => ("SharedDiskFs", "journalBlock", "[I", true)
  | 5 => ("SharedDiskFs", "journalValue", "[I", true)
  | 6 => ("SharedDiskFs", "journalSum", "[I", true)
  | 7 => ("SharedDiskFs", "journalMarked", "[Z", true)
  | 8 => ("SharedDiskFs", "lock", "[I", true)
  | 9 => ("SharedDiskFs", "cachedBlock", "[I", true)
  | 10 => ("SharedDiskFs", "cachedValue", "[I", true)
  | 11 => ("SharedDiskFs", "dirty", "[Z", true)
  | _ => ("SharedDiskFs", "hand", "[I", true)
def tyX1 : Nat → FieldType := fun k => match k with
  | 0 => .int
  | 1 => .array .boolean
  | 2 => .array .int
  | 3 => .array .int
  | 4 => .array .int
  | 5 => .array .int
  | 6 => .array .int
  | 7 => .array .boolean
  | 8 => .array .int
  | 9 => .array .int
  | 10 => .array .int
  | 11 => .array .boolean
  | _ => .array .int
abbrev wsX10 : List Cond := u_ws RX1 TX1 13
set_option maxRecDepth 100000 in
theorem nmX1 : ∀ a, a < 13 → ∀ b, b < 13 → a ≠ b → (TX1 a).2.1 ≠ (TX1 b).2.1 := by decide +kernel
set_option maxRecDepth 100000 in
theorem tyX1_ok : ∀ k, k < 13 → parseFieldDescriptor (TX1 k).2.2.1 = some (tyX1 k) := by decide +kernel
abbrev cX1_init : ByteArray := prog_1_method_1_code
def yX1_init : MethodName := ⟨RX1, "<init>", "(I)V"⟩
theorem dX1_init_0 : decode cX1_init 0 = .ok (.aload_n 0, 1) := by decide +kernel
theorem dX1_init_1 : decode cX1_init 1 = .ok (.invokespecial 1, 3) := by decide +kernel
theorem dX1_init_4 : decode cX1_init 4 = .ok (.aload_n 0, 1) := by decide +kernel
theorem dX1_init_5 : decode cX1_init 5 = .ok (.iconst 3, 1) := by decide +kernel
theorem dX1_init_6 : decode cX1_init 6 = .ok (.newarray .boolean, 2) := by decide +kernel
theorem dX1_init_8 : decode cX1_init 8 = .ok (.putfield 7, 3) := by decide +kernel
theorem dX1_init_11 : decode cX1_init 11 = .ok (.aload_n 0, 1) := by decide +kernel
theorem dX1_init_12 : decode cX1_init 12 = .ok (.bipush 16, 2) := by decide +kernel
theorem dX1_init_14 : decode cX1_init 14 = .ok (.newarray .int, 2) := by decide +kernel
theorem dX1_init_16 : decode cX1_init 16 = .ok (.putfield 13, 3) := by decide +kernel
theorem dX1_init_19 : decode cX1_init 19 = .ok (.aload_n 0, 1) := by decide +kernel
theorem dX1_init_20 : decode cX1_init 20 = .ok (.iconst 3, 1) := by decide +kernel
theorem dX1_init_21 : decode cX1_init 21 = .ok (.newarray .int, 2) := by decide +kernel
theorem dX1_init_23 : decode cX1_init 23 = .ok (.putfield 17, 3) := by decide +kernel
theorem dX1_init_26 : decode cX1_init 26 = .ok (.aload_n 0, 1) := by decide +kernel
theorem dX1_init_27 : decode cX1_init 27 = .ok (.bipush 48, 2) := by decide +kernel
theorem dX1_init_29 : decode cX1_init 29 = .ok (.newarray .int, 2) := by decide +kernel
theorem dX1_init_31 : decode cX1_init 31 = .ok (.putfield 20, 3) := by decide +kernel
theorem dX1_init_34 : decode cX1_init 34 = .ok (.aload_n 0, 1) := by decide +kernel
theorem dX1_init_35 : decode cX1_init 35 = .ok (.bipush 48, 2) := by decide +kernel
theorem dX1_init_37 : decode cX1_init 37 = .ok (.newarray .int, 2) := by decide +kernel
theorem dX1_init_39 : decode cX1_init 39 = .ok (.putfield 23, 3) := by decide +kernel
theorem dX1_init_42 : decode cX1_init 42 = .ok (.aload_n 0, 1) := by decide +kernel
theorem dX1_init_43 : decode cX1_init 43 = .ok (.iconst 3, 1) := by decide +kernel
theorem dX1_init_44 : decode cX1_init 44 = .ok (.newarray .int, 2) := by decide +kernel
theorem dX1_init_46 : decode cX1_init 46 = .ok (.putfield 26, 3) := by decide +kernel
theorem dX1_init_49 : decode cX1_init 49 = .ok (.aload_n 0, 1) := by decide +kernel
theorem dX1_init_50 : decode cX1_init 50 = .ok (.iconst 3, 1) := by decide +kernel
theorem dX1_init_51 : decode cX1_init 51 = .ok (.newarray .boolean, 2) := by decide +kernel
theorem dX1_init_53 : decode cX1_init 53 = .ok (.putfield 29, 3) := by decide +kernel
theorem dX1_init_56 : decode cX1_init 56 = .ok (.aload_n 0, 1) := by decide +kernel
theorem dX1_init_57 : decode cX1_init 57 = .ok (.bipush 48, 2) := by decide +kernel
theorem dX1_init_59 : decode cX1_init 59 = .ok (.newarray .int, 2) := by decide +kernel
theorem dX1_init_61 : decode cX1_init 61 = .ok (.putfield 32, 3) := by decide +kernel
theorem dX1_init_64 : decode cX1_init 64 = .ok (.aload_n 0, 1) := by decide +kernel
theorem dX1_init_65 : decode cX1_init 65 = .ok (.bipush 24, 2) := by decide +kernel
theorem dX1_init_67 : decode cX1_init 67 = .ok (.newarray .int, 2) := by decide +kernel
theorem dX1_init_69 : decode cX1_init 69 = .ok (.putfield 35, 3) := by decide +kernel
theorem dX1_init_72 : decode cX1_init 72 = .ok (.aload_n 0, 1) := by decide +kernel
theorem dX1_init_73 : decode cX1_init 73 = .ok (.bipush 24, 2) := by decide +kernel
theorem dX1_init_75 : decode cX1_init 75 = .ok (.newarray .int, 2) := by decide +kernel
theorem dX1_init_77 : decode cX1_init 77 = .ok (.putfield 38, 3) := by decide +kernel
theorem dX1_init_80 : decode cX1_init 80 = .ok (.aload_n 0, 1) := by decide +kernel
theorem dX1_init_81 : decode cX1_init 81 = .ok (.bipush 24, 2) := by decide +kernel
theorem dX1_init_83 : decode cX1_init 83 = .ok (.newarray .boolean, 2) := by decide +kernel
theorem dX1_init_85 : decode cX1_init 85 = .ok (.putfield 41, 3) := by decide +kernel
theorem dX1_init_88 : decode cX1_init 88 = .ok (.aload_n 0, 1) := by decide +kernel
theorem dX1_init_89 : decode cX1_init 89 = .ok (.iconst 3, 1) := by decide +kernel
theorem dX1_init_90 : decode cX1_init 90 = .ok (.newarray .int, 2) := by decide +kernel
theorem dX1_init_92 : decode cX1_init 92 = .ok (.putfield 44, 3) := by decide +kernel
theorem dX1_init_95 : decode cX1_init 95 = .ok (.iload_n 1, 1) := by decide +kernel
theorem dX1_init_96 : decode cX1_init 96 = .ok (.istore_n 2, 1) := by decide +kernel
theorem dX1_init_97 : decode cX1_init 97 = .ok (.iload_n 2, 1) := by decide +kernel
theorem dX1_init_98 : decode cX1_init 98 = .ok (.iconst 2, 1) := by decide +kernel
theorem dX1_init_99 : decode cX1_init 99 = .ok (.if_icmp .ge 5, 3) := by decide +kernel
theorem dX1_init_102 : decode cX1_init 102 = .ok (.iconst 2, 1) := by decide +kernel
theorem dX1_init_103 : decode cX1_init 103 = .ok (.istore_n 2, 1) := by decide +kernel
theorem dX1_init_104 : decode cX1_init 104 = .ok (.iload_n 2, 1) := by decide +kernel
theorem dX1_init_105 : decode cX1_init 105 = .ok (.bipush 8, 2) := by decide +kernel
theorem dX1_init_107 : decode cX1_init 107 = .ok (.if_icmp .le 6, 3) := by decide +kernel
theorem dX1_init_110 : decode cX1_init 110 = .ok (.bipush 8, 2) := by decide +kernel
theorem dX1_init_112 : decode cX1_init 112 = .ok (.istore_n 2, 1) := by decide +kernel
theorem dX1_init_113 : decode cX1_init 113 = .ok (.aload_n 0, 1) := by decide +kernel
theorem dX1_init_114 : decode cX1_init 114 = .ok (.iload_n 2, 1) := by decide +kernel
theorem dX1_init_115 : decode cX1_init 115 = .ok (.putfield 47, 3) := by decide +kernel
theorem dX1_init_118 : decode cX1_init 118 = .ok (.iconst 0, 1) := by decide +kernel
theorem dX1_init_119 : decode cX1_init 119 = .ok (.istore_n 3, 1) := by decide +kernel
theorem dX1_init_120 : decode cX1_init 120 = .ok (.iload_n 3, 1) := by decide +kernel
theorem dX1_init_121 : decode cX1_init 121 = .ok (.bipush 24, 2) := by decide +kernel
theorem dX1_init_123 : decode cX1_init 123 = .ok (.if_icmp .ge 16, 3) := by decide +kernel
theorem dX1_init_126 : decode cX1_init 126 = .ok (.aload_n 0, 1) := by decide +kernel
theorem dX1_init_127 : decode cX1_init 127 = .ok (.getfield 35, 3) := by decide +kernel
theorem dX1_init_130 : decode cX1_init 130 = .ok (.iload_n 3, 1) := by decide +kernel
theorem dX1_init_131 : decode cX1_init 131 = .ok (.iconst (-1), 1) := by decide +kernel
theorem dX1_init_132 : decode cX1_init 132 = .ok (.iastore, 1) := by decide +kernel
theorem dX1_init_133 : decode cX1_init 133 = .ok (.iinc 3 1, 3) := by decide +kernel
theorem dX1_init_136 : decode cX1_init 136 = .ok (.goto (-16), 3) := by decide +kernel
theorem dX1_init_139 : decode cX1_init 139 = .ok (.iconst 0, 1) := by decide +kernel
theorem dX1_init_140 : decode cX1_init 140 = .ok (.istore_n 3, 1) := by decide +kernel
theorem dX1_init_141 : decode cX1_init 141 = .ok (.iload_n 3, 1) := by decide +kernel
theorem dX1_init_142 : decode cX1_init 142 = .ok (.iconst 3, 1) := by decide +kernel
theorem dX1_init_143 : decode cX1_init 143 = .ok (.if_icmp .ge 16, 3) := by decide +kernel
theorem dX1_init_146 : decode cX1_init 146 = .ok (.aload_n 0, 1) := by decide +kernel
theorem dX1_init_147 : decode cX1_init 147 = .ok (.getfield 7, 3) := by decide +kernel
theorem dX1_init_150 : decode cX1_init 150 = .ok (.iload_n 3, 1) := by decide +kernel
theorem dX1_init_151 : decode cX1_init 151 = .ok (.iconst 1, 1) := by decide +kernel
theorem dX1_init_152 : decode cX1_init 152 = .ok (.bastore, 1) := by decide +kernel
theorem dX1_init_153 : decode cX1_init 153 = .ok (.iinc 3 1, 3) := by decide +kernel
theorem dX1_init_156 : decode cX1_init 156 = .ok (.goto (-15), 3) := by decide +kernel
theorem dX1_init_159 : decode cX1_init 159 = .ok (.return_, 1) := by decide +kernel
abbrev cX1_read : ByteArray := prog_1_method_24_code
def yX1_read : MethodName := ⟨RX1, "read", "(II)I"⟩
theorem dX1_read_0 : decode cX1_read 0 = .ok (.iload_n 1, 1) := by decide +kernel
theorem dX1_read_1 : decode cX1_read 1 = .ok (.invokestatic 108, 3) := by decide +kernel
theorem dX1_read_4 : decode cX1_read 4 = .ok (.ifCond .eq 5, 3) := by decide +kernel
theorem dX1_read_7 : decode cX1_read 7 = .ok (.iconst (-1), 1) := by decide +kernel
theorem dX1_read_8 : decode cX1_read 8 = .ok (.ireturn, 1) := by decide +kernel
theorem dX1_read_9 : decode cX1_read 9 = .ok (.iload_n 2, 1) := by decide +kernel
theorem dX1_read_10 : decode cX1_read 10 = .ok (.invokestatic 112, 3) := by decide +kernel
theorem dX1_read_13 : decode cX1_read 13 = .ok (.ifCond .eq 6, 3) := by decide +kernel
theorem dX1_read_16 : decode cX1_read 16 = .ok (.bipush (-2), 2) := by decide +kernel
theorem dX1_read_18 : decode cX1_read 18 = .ok (.ireturn, 1) := by decide +kernel
theorem dX1_read_19 : decode cX1_read 19 = .ok (.aload_n 0, 1) := by decide +kernel
theorem dX1_read_20 : decode cX1_read 20 = .ok (.getfield 7, 3) := by decide +kernel
theorem dX1_read_23 : decode cX1_read 23 = .ok (.iload_n 1, 1) := by decide +kernel
theorem dX1_read_24 : decode cX1_read 24 = .ok (.baload, 1) := by decide +kernel
theorem dX1_read_25 : decode cX1_read 25 = .ok (.ifCond .ne 6, 3) := by decide +kernel
theorem dX1_read_28 : decode cX1_read 28 = .ok (.bipush (-3), 2) := by decide +kernel
theorem dX1_read_30 : decode cX1_read 30 = .ok (.ireturn, 1) := by decide +kernel
theorem dX1_read_31 : decode cX1_read 31 = .ok (.aload_n 0, 1) := by decide +kernel
theorem dX1_read_32 : decode cX1_read 32 = .ok (.iload_n 1, 1) := by decide +kernel
theorem dX1_read_33 : decode cX1_read 33 = .ok (.iload_n 2, 1) := by decide +kernel
theorem dX1_read_34 : decode cX1_read 34 = .ok (.invokevirtual 115, 3) := by decide +kernel
theorem dX1_read_37 : decode cX1_read 37 = .ok (.ireturn, 1) := by decide +kernel
abbrev cX1_badNode : ByteArray := prog_1_method_2_code
def yX1_badNode : MethodName := ⟨RX1, "badNode", "(I)Z"⟩
theorem dX1_badNode_0 : decode cX1_badNode 0 = .ok (.iload_n 0, 1) := by decide +kernel
theorem dX1_badNode_1 : decode cX1_badNode 1 = .ok (.ifCond .lt 8, 3) := by decide +kernel
theorem dX1_badNode_4 : decode cX1_badNode 4 = .ok (.iload_n 0, 1) := by decide +kernel
theorem dX1_badNode_5 : decode cX1_badNode 5 = .ok (.iconst 3, 1) := by decide +kernel
theorem dX1_badNode_6 : decode cX1_badNode 6 = .ok (.if_icmp .lt 7, 3) := by decide +kernel
theorem dX1_badNode_9 : decode cX1_badNode 9 = .ok (.iconst 1, 1) := by decide +kernel
theorem dX1_badNode_10 : decode cX1_badNode 10 = .ok (.goto 4, 3) := by decide +kernel
theorem dX1_badNode_13 : decode cX1_badNode 13 = .ok (.iconst 0, 1) := by decide +kernel
theorem dX1_badNode_14 : decode cX1_badNode 14 = .ok (.ireturn, 1) := by decide +kernel
abbrev cX1_badBlock : ByteArray := prog_1_method_3_code
def yX1_badBlock : MethodName := ⟨RX1, "badBlock", "(I)Z"⟩
theorem dX1_badBlock_0 : decode cX1_badBlock 0 = .ok (.iload_n 0, 1) := by decide +kernel
theorem dX1_badBlock_1 : decode cX1_badBlock 1 = .ok (.ifCond .lt 9, 3) := by decide +kernel
theorem dX1_badBlock_4 : decode cX1_badBlock 4 = .ok (.iload_n 0, 1) := by decide +kernel
theorem dX1_badBlock_5 : decode cX1_badBlock 5 = .ok (.bipush 16, 2) := by decide +kernel
theorem dX1_badBlock_7 : decode cX1_badBlock 7 = .ok (.if_icmp .lt 7, 3) := by decide +kernel
theorem dX1_badBlock_10 : decode cX1_badBlock 10 = .ok (.iconst 1, 1) := by decide +kernel
theorem dX1_badBlock_11 : decode cX1_badBlock 11 = .ok (.goto 4, 3) := by decide +kernel
theorem dX1_badBlock_14 : decode cX1_badBlock 14 = .ok (.iconst 0, 1) := by decide +kernel
theorem dX1_badBlock_15 : decode cX1_badBlock 15 = .ok (.ireturn, 1) := by decide +kernel
abbrev cX1_readBlock : ByteArray := prog_1_method_22_code
def yX1_readBlock : MethodName := ⟨RX1, "readBlock", "(II)I"⟩
theorem dX1_readBlock_0 : decode cX1_readBlock 0 = .ok (.aload_n 0, 1) := by decide +kernel
theorem dX1_readBlock_1 : decode cX1_readBlock 1 = .ok (.iload_n 1, 1) := by decide +kernel
theorem dX1_readBlock_2 : decode cX1_readBlock 2 = .ok (.iload_n 2, 1) := by decide +kernel
theorem dX1_readBlock_3 : decode cX1_readBlock 3 = .ok (.iconst 1, 1) := by decide +kernel
theorem dX1_readBlock_4 : decode cX1_readBlock 4 = .ok (.invokevirtual 102, 3) := by decide +kernel
theorem dX1_readBlock_7 : decode cX1_readBlock 7 = .ok (.aload_n 0, 1) := by decide +kernel
theorem dX1_readBlock_8 : decode cX1_readBlock 8 = .ok (.iload_n 1, 1) := by decide +kernel
theorem dX1_readBlock_9 : decode cX1_readBlock 9 = .ok (.iload_n 2, 1) := by decide +kernel
theorem dX1_readBlock_10 : decode cX1_readBlock 10 = .ok (.invokevirtual 105, 3) := by decide +kernel
theorem dX1_readBlock_13 : decode cX1_readBlock 13 = .ok (.istore_n 3, 1) := by decide +kernel
theorem dX1_readBlock_14 : decode cX1_readBlock 14 = .ok (.aload_n 0, 1) := by decide +kernel
theorem dX1_readBlock_15 : decode cX1_readBlock 15 = .ok (.getfield 38, 3) := by decide +kernel
theorem dX1_readBlock_18 : decode cX1_readBlock 18 = .ok (.iload_n 3, 1) := by decide +kernel
theorem dX1_readBlock_19 : decode cX1_readBlock 19 = .ok (.iaload, 1) := by decide +kernel
theorem dX1_readBlock_20 : decode cX1_readBlock 20 = .ok (.ireturn, 1) := by decide +kernel
abbrev cX1_take : ByteArray := prog_1_method_20_code
def yX1_take : MethodName := ⟨RX1, "take", "(III)V"⟩
theorem dX1_take_0 : decode cX1_take 0 = .ok (.iconst 0, 1) := by decide +kernel
theorem dX1_take_1 : decode cX1_take 1 = .ok (.istore 4, 2) := by decide +kernel
theorem dX1_take_3 : decode cX1_take 3 = .ok (.iload 4, 2) := by decide +kernel
theorem dX1_take_5 : decode cX1_take 5 = .ok (.iconst 3, 1) := by decide +kernel
theorem dX1_take_6 : decode cX1_take 6 = .ok (.if_icmp .ge 38, 3) := by decide +kernel
theorem dX1_take_9 : decode cX1_take 9 = .ok (.iload 4, 2) := by decide +kernel
theorem dX1_take_11 : decode cX1_take 11 = .ok (.iload_n 1, 1) := by decide +kernel
theorem dX1_take_12 : decode cX1_take 12 = .ok (.if_icmp .eq 26, 3) := by decide +kernel
theorem dX1_take_15 : decode cX1_take 15 = .ok (.aload_n 0, 1) := by decide +kernel
theorem dX1_take_16 : decode cX1_take 16 = .ok (.getfield 32, 3) := by decide +kernel
theorem dX1_take_19 : decode cX1_take 19 = .ok (.iload 4, 2) := by decide +kernel
theorem dX1_take_21 : decode cX1_take 21 = .ok (.bipush 16, 2) := by decide +kernel
theorem dX1_take_23 : decode cX1_take 23 = .ok (.imul, 1) := by decide +kernel
theorem dX1_take_24 : decode cX1_take 24 = .ok (.iload_n 2, 1) := by decide +kernel
theorem dX1_take_25 : decode cX1_take 25 = .ok (.iadd, 1) := by decide +kernel
theorem dX1_take_26 : decode cX1_take 26 = .ok (.iaload, 1) := by decide +kernel
theorem dX1_take_27 : decode cX1_take 27 = .ok (.ifCond .eq 11, 3) := by decide +kernel
theorem dX1_take_30 : decode cX1_take 30 = .ok (.aload_n 0, 1) := by decide +kernel
theorem dX1_take_31 : decode cX1_take 31 = .ok (.iload 4, 2) := by decide +kernel
theorem dX1_take_33 : decode cX1_take 33 = .ok (.iload_n 2, 1) := by decide +kernel
theorem dX1_take_34 : decode cX1_take 34 = .ok (.iload_n 3, 1) := by decide +kernel
theorem dX1_take_35 : decode cX1_take 35 = .ok (.invokevirtual 88, 3) := by decide +kernel
theorem dX1_take_38 : decode cX1_take 38 = .ok (.iinc 4 1, 3) := by decide +kernel
theorem dX1_take_41 : decode cX1_take 41 = .ok (.goto (-38), 3) := by decide +kernel
theorem dX1_take_44 : decode cX1_take 44 = .ok (.aload_n 0, 1) := by decide +kernel
theorem dX1_take_45 : decode cX1_take 45 = .ok (.getfield 32, 3) := by decide +kernel
theorem dX1_take_48 : decode cX1_take 48 = .ok (.iload_n 1, 1) := by decide +kernel
theorem dX1_take_49 : decode cX1_take 49 = .ok (.bipush 16, 2) := by decide +kernel
theorem dX1_take_51 : decode cX1_take 51 = .ok (.imul, 1) := by decide +kernel
theorem dX1_take_52 : decode cX1_take 52 = .ok (.iload_n 2, 1) := by decide +kernel
theorem dX1_take_53 : decode cX1_take 53 = .ok (.iadd, 1) := by decide +kernel
theorem dX1_take_54 : decode cX1_take 54 = .ok (.iaload, 1) := by decide +kernel
theorem dX1_take_55 : decode cX1_take 55 = .ok (.iload_n 3, 1) := by decide +kernel
theorem dX1_take_56 : decode cX1_take 56 = .ok (.if_icmp .ge 15, 3) := by decide +kernel
theorem dX1_take_59 : decode cX1_take 59 = .ok (.aload_n 0, 1) := by decide +kernel
theorem dX1_take_60 : decode cX1_take 60 = .ok (.getfield 32, 3) := by decide +kernel
theorem dX1_take_63 : decode cX1_take 63 = .ok (.iload_n 1, 1) := by decide +kernel
theorem dX1_take_64 : decode cX1_take 64 = .ok (.bipush 16, 2) := by decide +kernel
theorem dX1_take_66 : decode cX1_take 66 = .ok (.imul, 1) := by decide +kernel
theorem dX1_take_67 : decode cX1_take 67 = .ok (.iload_n 2, 1) := by decide +kernel
theorem dX1_take_68 : decode cX1_take 68 = .ok (.iadd, 1) := by decide +kernel
theorem dX1_take_69 : decode cX1_take 69 = .ok (.iload_n 3, 1) := by decide +kernel
theorem dX1_take_70 : decode cX1_take 70 = .ok (.iastore, 1) := by decide +kernel
theorem dX1_take_71 : decode cX1_take 71 = .ok (.return_, 1) := by decide +kernel
abbrev cX1_stepBack : ByteArray := prog_1_method_21_code
def yX1_stepBack : MethodName := ⟨RX1, "stepBack", "(III)V"⟩
theorem dX1_stepBack_0 : decode cX1_stepBack 0 = .ok (.aload_n 0, 1) := by decide +kernel
theorem dX1_stepBack_1 : decode cX1_stepBack 1 = .ok (.iload_n 1, 1) := by decide +kernel
theorem dX1_stepBack_2 : decode cX1_stepBack 2 = .ok (.iload_n 2, 1) := by decide +kernel
theorem dX1_stepBack_3 : decode cX1_stepBack 3 = .ok (.invokevirtual 91, 3) := by decide +kernel
theorem dX1_stepBack_6 : decode cX1_stepBack 6 = .ok (.istore 4, 2) := by decide +kernel
theorem dX1_stepBack_8 : decode cX1_stepBack 8 = .ok (.iload 4, 2) := by decide +kernel
theorem dX1_stepBack_10 : decode cX1_stepBack 10 = .ok (.ifCond .eq 9, 3) := by decide +kernel
theorem dX1_stepBack_13 : decode cX1_stepBack 13 = .ok (.aload_n 0, 1) := by decide +kernel
theorem dX1_stepBack_14 : decode cX1_stepBack 14 = .ok (.iload_n 1, 1) := by decide +kernel
theorem dX1_stepBack_15 : decode cX1_stepBack 15 = .ok (.invokevirtual 95, 3) := by decide +kernel
theorem dX1_stepBack_18 : decode cX1_stepBack 18 = .ok (.pop, 1) := by decide +kernel
theorem dX1_stepBack_19 : decode cX1_stepBack 19 = .ok (.iload_n 3, 1) := by decide +kernel
theorem dX1_stepBack_20 : decode cX1_stepBack 20 = .ok (.iconst 2, 1) := by decide +kernel
theorem dX1_stepBack_21 : decode cX1_stepBack 21 = .ok (.if_icmp .ne 24, 3) := by decide +kernel
theorem dX1_stepBack_24 : decode cX1_stepBack 24 = .ok (.aload_n 0, 1) := by decide +kernel
theorem dX1_stepBack_25 : decode cX1_stepBack 25 = .ok (.iload_n 1, 1) := by decide +kernel
theorem dX1_stepBack_26 : decode cX1_stepBack 26 = .ok (.iload_n 2, 1) := by decide +kernel
theorem dX1_stepBack_27 : decode cX1_stepBack 27 = .ok (.invokevirtual 98, 3) := by decide +kernel
theorem dX1_stepBack_30 : decode cX1_stepBack 30 = .ok (.aload_n 0, 1) := by decide +kernel
theorem dX1_stepBack_31 : decode cX1_stepBack 31 = .ok (.getfield 32, 3) := by decide +kernel
theorem dX1_stepBack_34 : decode cX1_stepBack 34 = .ok (.iload_n 1, 1) := by decide +kernel
theorem dX1_stepBack_35 : decode cX1_stepBack 35 = .ok (.bipush 16, 2) := by decide +kernel
theorem dX1_stepBack_37 : decode cX1_stepBack 37 = .ok (.imul, 1) := by decide +kernel
theorem dX1_stepBack_38 : decode cX1_stepBack 38 = .ok (.iload_n 2, 1) := by decide +kernel
theorem dX1_stepBack_39 : decode cX1_stepBack 39 = .ok (.iadd, 1) := by decide +kernel
theorem dX1_stepBack_40 : decode cX1_stepBack 40 = .ok (.iconst 0, 1) := by decide +kernel
theorem dX1_stepBack_41 : decode cX1_stepBack 41 = .ok (.iastore, 1) := by decide +kernel
theorem dX1_stepBack_42 : decode cX1_stepBack 42 = .ok (.goto 15, 3) := by decide +kernel
theorem dX1_stepBack_45 : decode cX1_stepBack 45 = .ok (.aload_n 0, 1) := by decide +kernel
theorem dX1_stepBack_46 : decode cX1_stepBack 46 = .ok (.getfield 32, 3) := by decide +kernel
theorem dX1_stepBack_49 : decode cX1_stepBack 49 = .ok (.iload_n 1, 1) := by decide +kernel
theorem dX1_stepBack_50 : decode cX1_stepBack 50 = .ok (.bipush 16, 2) := by decide +kernel
theorem dX1_stepBack_52 : decode cX1_stepBack 52 = .ok (.imul, 1) := by decide +kernel
theorem dX1_stepBack_53 : decode cX1_stepBack 53 = .ok (.iload_n 2, 1) := by decide +kernel
theorem dX1_stepBack_54 : decode cX1_stepBack 54 = .ok (.iadd, 1) := by decide +kernel
theorem dX1_stepBack_55 : decode cX1_stepBack 55 = .ok (.iconst 1, 1) := by decide +kernel
theorem dX1_stepBack_56 : decode cX1_stepBack 56 = .ok (.iastore, 1) := by decide +kernel
theorem dX1_stepBack_57 : decode cX1_stepBack 57 = .ok (.return_, 1) := by decide +kernel
abbrev cX1_isUnsafe : ByteArray := prog_1_method_19_code
def yX1_isUnsafe : MethodName := ⟨RX1, "isUnsafe", "(II)Z"⟩
theorem dX1_isUnsafe_0 : decode cX1_isUnsafe 0 = .ok (.aload_n 0, 1) := by decide +kernel
theorem dX1_isUnsafe_1 : decode cX1_isUnsafe 1 = .ok (.iload_n 1, 1) := by decide +kernel
theorem dX1_isUnsafe_2 : decode cX1_isUnsafe 2 = .ok (.iload_n 2, 1) := by decide +kernel
theorem dX1_isUnsafe_3 : decode cX1_isUnsafe 3 = .ok (.invokevirtual 51, 3) := by decide +kernel
theorem dX1_isUnsafe_6 : decode cX1_isUnsafe 6 = .ok (.istore_n 3, 1) := by decide +kernel
theorem dX1_isUnsafe_7 : decode cX1_isUnsafe 7 = .ok (.iload_n 3, 1) := by decide +kernel
theorem dX1_isUnsafe_8 : decode cX1_isUnsafe 8 = .ok (.ifCond .lt 5, 3) := by decide +kernel
theorem dX1_isUnsafe_11 : decode cX1_isUnsafe 11 = .ok (.iconst 1, 1) := by decide +kernel
theorem dX1_isUnsafe_12 : decode cX1_isUnsafe 12 = .ok (.ireturn, 1) := by decide +kernel
theorem dX1_isUnsafe_13 : decode cX1_isUnsafe 13 = .ok (.aload_n 0, 1) := by decide +kernel
theorem dX1_isUnsafe_14 : decode cX1_isUnsafe 14 = .ok (.iload_n 1, 1) := by decide +kernel
theorem dX1_isUnsafe_15 : decode cX1_isUnsafe 15 = .ok (.iload_n 2, 1) := by decide +kernel
theorem dX1_isUnsafe_16 : decode cX1_isUnsafe 16 = .ok (.invokevirtual 63, 3) := by decide +kernel
theorem dX1_isUnsafe_19 : decode cX1_isUnsafe 19 = .ok (.istore 4, 2) := by decide +kernel
theorem dX1_isUnsafe_21 : decode cX1_isUnsafe 21 = .ok (.iload 4, 2) := by decide +kernel
theorem dX1_isUnsafe_23 : decode cX1_isUnsafe 23 = .ok (.ifCond .lt 17, 3) := by decide +kernel
theorem dX1_isUnsafe_26 : decode cX1_isUnsafe 26 = .ok (.aload_n 0, 1) := by decide +kernel
theorem dX1_isUnsafe_27 : decode cX1_isUnsafe 27 = .ok (.getfield 41, 3) := by decide +kernel
theorem dX1_isUnsafe_30 : decode cX1_isUnsafe 30 = .ok (.iload 4, 2) := by decide +kernel
theorem dX1_isUnsafe_32 : decode cX1_isUnsafe 32 = .ok (.baload, 1) := by decide +kernel
theorem dX1_isUnsafe_33 : decode cX1_isUnsafe 33 = .ok (.ifCond .eq 7, 3) := by decide +kernel
theorem dX1_isUnsafe_36 : decode cX1_isUnsafe 36 = .ok (.iconst 1, 1) := by decide +kernel
theorem dX1_isUnsafe_37 : decode cX1_isUnsafe 37 = .ok (.goto 4, 3) := by decide +kernel
theorem dX1_isUnsafe_40 : decode cX1_isUnsafe 40 = .ok (.iconst 0, 1) := by decide +kernel
theorem dX1_isUnsafe_41 : decode cX1_isUnsafe 41 = .ok (.ireturn, 1) := by decide +kernel
abbrev cX1_journaled : ByteArray := prog_1_method_4_code
def yX1_journaled : MethodName := ⟨RX1, "journaled", "(II)I"⟩
theorem dX1_journaled_0 : decode cX1_journaled 0 = .ok (.iload_n 1, 1) := by decide +kernel
theorem dX1_journaled_1 : decode cX1_journaled 1 = .ok (.bipush 16, 2) := by decide +kernel
theorem dX1_journaled_3 : decode cX1_journaled 3 = .ok (.imul, 1) := by decide +kernel
theorem dX1_journaled_4 : decode cX1_journaled 4 = .ok (.istore_n 3, 1) := by decide +kernel
theorem dX1_journaled_5 : decode cX1_journaled 5 = .ok (.iload_n 3, 1) := by decide +kernel
theorem dX1_journaled_6 : decode cX1_journaled 6 = .ok (.iload_n 1, 1) := by decide +kernel
theorem dX1_journaled_7 : decode cX1_journaled 7 = .ok (.bipush 16, 2) := by decide +kernel
theorem dX1_journaled_9 : decode cX1_journaled 9 = .ok (.imul, 1) := by decide +kernel
theorem dX1_journaled_10 : decode cX1_journaled 10 = .ok (.aload_n 0, 1) := by decide +kernel
theorem dX1_journaled_11 : decode cX1_journaled 11 = .ok (.getfield 17, 3) := by decide +kernel
theorem dX1_journaled_14 : decode cX1_journaled 14 = .ok (.iload_n 1, 1) := by decide +kernel
theorem dX1_journaled_15 : decode cX1_journaled 15 = .ok (.iaload, 1) := by decide +kernel
theorem dX1_journaled_16 : decode cX1_journaled 16 = .ok (.iadd, 1) := by decide +kernel
theorem dX1_journaled_17 : decode cX1_journaled 17 = .ok (.if_icmp .ge 21, 3) := by decide +kernel
theorem dX1_journaled_20 : decode cX1_journaled 20 = .ok (.aload_n 0, 1) := by decide +kernel
theorem dX1_journaled_21 : decode cX1_journaled 21 = .ok (.getfield 20, 3) := by decide +kernel
theorem dX1_journaled_24 : decode cX1_journaled 24 = .ok (.iload_n 3, 1) := by decide +kernel
theorem dX1_journaled_25 : decode cX1_journaled 25 = .ok (.iaload, 1) := by decide +kernel
theorem dX1_journaled_26 : decode cX1_journaled 26 = .ok (.iload_n 2, 1) := by decide +kernel
theorem dX1_journaled_27 : decode cX1_journaled 27 = .ok (.if_icmp .ne 5, 3) := by decide +kernel
theorem dX1_journaled_30 : decode cX1_journaled 30 = .ok (.iload_n 3, 1) := by decide +kernel
theorem dX1_journaled_31 : decode cX1_journaled 31 = .ok (.ireturn, 1) := by decide +kernel
theorem dX1_journaled_32 : decode cX1_journaled 32 = .ok (.iinc 3 1, 3) := by decide +kernel
theorem dX1_journaled_35 : decode cX1_journaled 35 = .ok (.goto (-30), 3) := by decide +kernel
theorem dX1_journaled_38 : decode cX1_journaled 38 = .ok (.iconst (-1), 1) := by decide +kernel
theorem dX1_journaled_39 : decode cX1_journaled 39 = .ok (.ireturn, 1) := by decide +kernel
abbrev cX1_cached : ByteArray := prog_1_method_11_code
def yX1_cached : MethodName := ⟨RX1, "cached", "(II)I"⟩
theorem dX1_cached_0 : decode cX1_cached 0 = .ok (.iload_n 1, 1) := by decide +kernel
theorem dX1_cached_1 : decode cX1_cached 1 = .ok (.bipush 8, 2) := by decide +kernel
theorem dX1_cached_3 : decode cX1_cached 3 = .ok (.imul, 1) := by decide +kernel
theorem dX1_cached_4 : decode cX1_cached 4 = .ok (.istore_n 3, 1) := by decide +kernel
theorem dX1_cached_5 : decode cX1_cached 5 = .ok (.iload_n 3, 1) := by decide +kernel
theorem dX1_cached_6 : decode cX1_cached 6 = .ok (.iload_n 1, 1) := by decide +kernel
theorem dX1_cached_7 : decode cX1_cached 7 = .ok (.bipush 8, 2) := by decide +kernel
theorem dX1_cached_9 : decode cX1_cached 9 = .ok (.imul, 1) := by decide +kernel
theorem dX1_cached_10 : decode cX1_cached 10 = .ok (.aload_n 0, 1) := by decide +kernel
theorem dX1_cached_11 : decode cX1_cached 11 = .ok (.getfield 47, 3) := by decide +kernel
theorem dX1_cached_14 : decode cX1_cached 14 = .ok (.iadd, 1) := by decide +kernel
theorem dX1_cached_15 : decode cX1_cached 15 = .ok (.if_icmp .ge 21, 3) := by decide +kernel
theorem dX1_cached_18 : decode cX1_cached 18 = .ok (.aload_n 0, 1) := by decide +kernel
theorem dX1_cached_19 : decode cX1_cached 19 = .ok (.getfield 35, 3) := by decide +kernel
theorem dX1_cached_22 : decode cX1_cached 22 = .ok (.iload_n 3, 1) := by decide +kernel
theorem dX1_cached_23 : decode cX1_cached 23 = .ok (.iaload, 1) := by decide +kernel
theorem dX1_cached_24 : decode cX1_cached 24 = .ok (.iload_n 2, 1) := by decide +kernel
theorem dX1_cached_25 : decode cX1_cached 25 = .ok (.if_icmp .ne 5, 3) := by decide +kernel
theorem dX1_cached_28 : decode cX1_cached 28 = .ok (.iload_n 3, 1) := by decide +kernel
theorem dX1_cached_29 : decode cX1_cached 29 = .ok (.ireturn, 1) := by decide +kernel
theorem dX1_cached_30 : decode cX1_cached 30 = .ok (.iinc 3 1, 3) := by decide +kernel
theorem dX1_cached_33 : decode cX1_cached 33 = .ok (.goto (-28), 3) := by decide +kernel
theorem dX1_cached_36 : decode cX1_cached 36 = .ok (.iconst (-1), 1) := by decide +kernel
theorem dX1_cached_37 : decode cX1_cached 37 = .ok (.ireturn, 1) := by decide +kernel
abbrev cX1_makeSafe : ByteArray := prog_1_method_18_code
def yX1_makeSafe : MethodName := ⟨RX1, "makeSafe", "(I)I"⟩
theorem dX1_makeSafe_0 : decode cX1_makeSafe 0 = .ok (.aload_n 0, 1) := by decide +kernel
theorem dX1_makeSafe_1 : decode cX1_makeSafe 1 = .ok (.iload_n 1, 1) := by decide +kernel
theorem dX1_makeSafe_2 : decode cX1_makeSafe 2 = .ok (.invokevirtual 76, 3) := by decide +kernel
theorem dX1_makeSafe_5 : decode cX1_makeSafe 5 = .ok (.istore_n 2, 1) := by decide +kernel
theorem dX1_makeSafe_6 : decode cX1_makeSafe 6 = .ok (.aload_n 0, 1) := by decide +kernel
theorem dX1_makeSafe_7 : decode cX1_makeSafe 7 = .ok (.iload_n 1, 1) := by decide +kernel
theorem dX1_makeSafe_8 : decode cX1_makeSafe 8 = .ok (.invokevirtual 79, 3) := by decide +kernel
theorem dX1_makeSafe_11 : decode cX1_makeSafe 11 = .ok (.aload_n 0, 1) := by decide +kernel
theorem dX1_makeSafe_12 : decode cX1_makeSafe 12 = .ok (.iload_n 1, 1) := by decide +kernel
theorem dX1_makeSafe_13 : decode cX1_makeSafe 13 = .ok (.invokevirtual 82, 3) := by decide +kernel
theorem dX1_makeSafe_16 : decode cX1_makeSafe 16 = .ok (.aload_n 0, 1) := by decide +kernel
theorem dX1_makeSafe_17 : decode cX1_makeSafe 17 = .ok (.iload_n 1, 1) := by decide +kernel
theorem dX1_makeSafe_18 : decode cX1_makeSafe 18 = .ok (.invokevirtual 85, 3) := by decide +kernel
theorem dX1_makeSafe_21 : decode cX1_makeSafe 21 = .ok (.iload_n 2, 1) := by decide +kernel
theorem dX1_makeSafe_22 : decode cX1_makeSafe 22 = .ok (.ireturn, 1) := by decide +kernel
end
section
set_option maxRecDepth 100000
abbrev cX1_unsafeCount : ByteArray := prog_1_method_17_code
def yX1_unsafeCount : MethodName := ⟨RX1, "unsafeCount", "(I)I"⟩
theorem dX1_unsafeCount_0 : decode cX1_unsafeCount 0 = .ok (.aload_n 0, 1) := by decide +kernel
theorem dX1_unsafeCount_1 : decode cX1_unsafeCount 1 = .ok (.getfield 17, 3) := by decide +kernel
theorem dX1_unsafeCount_4 : decode cX1_unsafeCount 4 = .ok (.iload_n 1, 1) := by decide +kernel
theorem dX1_unsafeCount_5 : decode cX1_unsafeCount 5 = .ok (.iaload, 1) := by decide +kernel
theorem dX1_unsafeCount_6 : decode cX1_unsafeCount 6 = .ok (.istore_n 2, 1) := by decide +kernel
theorem dX1_unsafeCount_7 : decode cX1_unsafeCount 7 = .ok (.iload_n 1, 1) := by decide +kernel
theorem dX1_unsafeCount_8 : decode cX1_unsafeCount 8 = .ok (.bipush 8, 2) := by decide +kernel
theorem dX1_unsafeCount_10 : decode cX1_unsafeCount 10 = .ok (.imul, 1) := by decide +kernel
theorem dX1_unsafeCount_11 : decode cX1_unsafeCount 11 = .ok (.istore_n 3, 1) := by decide +kernel
theorem dX1_unsafeCount_12 : decode cX1_unsafeCount 12 = .ok (.iload_n 3, 1) := by decide +kernel
theorem dX1_unsafeCount_13 : decode cX1_unsafeCount 13 = .ok (.iload_n 1, 1) := by decide +kernel
theorem dX1_unsafeCount_14 : decode cX1_unsafeCount 14 = .ok (.bipush 8, 2) := by decide +kernel
theorem dX1_unsafeCount_16 : decode cX1_unsafeCount 16 = .ok (.imul, 1) := by decide +kernel
theorem dX1_unsafeCount_17 : decode cX1_unsafeCount 17 = .ok (.aload_n 0, 1) := by decide +kernel
theorem dX1_unsafeCount_18 : decode cX1_unsafeCount 18 = .ok (.getfield 47, 3) := by decide +kernel
theorem dX1_unsafeCount_21 : decode cX1_unsafeCount 21 = .ok (.iadd, 1) := by decide +kernel
theorem dX1_unsafeCount_22 : decode cX1_unsafeCount 22 = .ok (.if_icmp .ge 39, 3) := by decide +kernel
theorem dX1_unsafeCount_25 : decode cX1_unsafeCount 25 = .ok (.aload_n 0, 1) := by decide +kernel
theorem dX1_unsafeCount_26 : decode cX1_unsafeCount 26 = .ok (.getfield 41, 3) := by decide +kernel
theorem dX1_unsafeCount_29 : decode cX1_unsafeCount 29 = .ok (.iload_n 3, 1) := by decide +kernel
theorem dX1_unsafeCount_30 : decode cX1_unsafeCount 30 = .ok (.baload, 1) := by decide +kernel
theorem dX1_unsafeCount_31 : decode cX1_unsafeCount 31 = .ok (.ifCond .eq 24, 3) := by decide +kernel
theorem dX1_unsafeCount_34 : decode cX1_unsafeCount 34 = .ok (.aload_n 0, 1) := by decide +kernel
theorem dX1_unsafeCount_35 : decode cX1_unsafeCount 35 = .ok (.iload_n 1, 1) := by decide +kernel
theorem dX1_unsafeCount_36 : decode cX1_unsafeCount 36 = .ok (.aload_n 0, 1) := by decide +kernel
theorem dX1_unsafeCount_37 : decode cX1_unsafeCount 37 = .ok (.getfield 35, 3) := by decide +kernel
theorem dX1_unsafeCount_40 : decode cX1_unsafeCount 40 = .ok (.iload_n 3, 1) := by decide +kernel
theorem dX1_unsafeCount_41 : decode cX1_unsafeCount 41 = .ok (.iaload, 1) := by decide +kernel
theorem dX1_unsafeCount_42 : decode cX1_unsafeCount 42 = .ok (.invokevirtual 51, 3) := by decide +kernel
theorem dX1_unsafeCount_45 : decode cX1_unsafeCount 45 = .ok (.istore 4, 2) := by decide +kernel
theorem dX1_unsafeCount_47 : decode cX1_unsafeCount 47 = .ok (.iload 4, 2) := by decide +kernel
theorem dX1_unsafeCount_49 : decode cX1_unsafeCount 49 = .ok (.ifCond .ge 6, 3) := by decide +kernel
theorem dX1_unsafeCount_52 : decode cX1_unsafeCount 52 = .ok (.iinc 2 1, 3) := by decide +kernel
theorem dX1_unsafeCount_55 : decode cX1_unsafeCount 55 = .ok (.iinc 3 1, 3) := by decide +kernel
theorem dX1_unsafeCount_58 : decode cX1_unsafeCount 58 = .ok (.goto (-46), 3) := by decide +kernel
theorem dX1_unsafeCount_61 : decode cX1_unsafeCount 61 = .ok (.iload_n 2, 1) := by decide +kernel
theorem dX1_unsafeCount_62 : decode cX1_unsafeCount 62 = .ok (.ireturn, 1) := by decide +kernel
abbrev cX1_fillJournal : ByteArray := prog_1_method_16_code
def yX1_fillJournal : MethodName := ⟨RX1, "fillJournal", "(I)V"⟩
theorem dX1_fillJournal_0 : decode cX1_fillJournal 0 = .ok (.iload_n 1, 1) := by decide +kernel
theorem dX1_fillJournal_1 : decode cX1_fillJournal 1 = .ok (.bipush 8, 2) := by decide +kernel
theorem dX1_fillJournal_3 : decode cX1_fillJournal 3 = .ok (.imul, 1) := by decide +kernel
theorem dX1_fillJournal_4 : decode cX1_fillJournal 4 = .ok (.istore_n 2, 1) := by decide +kernel
theorem dX1_fillJournal_5 : decode cX1_fillJournal 5 = .ok (.iload_n 2, 1) := by decide +kernel
theorem dX1_fillJournal_6 : decode cX1_fillJournal 6 = .ok (.iload_n 1, 1) := by decide +kernel
theorem dX1_fillJournal_7 : decode cX1_fillJournal 7 = .ok (.bipush 8, 2) := by decide +kernel
theorem dX1_fillJournal_9 : decode cX1_fillJournal 9 = .ok (.imul, 1) := by decide +kernel
theorem dX1_fillJournal_10 : decode cX1_fillJournal 10 = .ok (.aload_n 0, 1) := by decide +kernel
theorem dX1_fillJournal_11 : decode cX1_fillJournal 11 = .ok (.getfield 47, 3) := by decide +kernel
theorem dX1_fillJournal_14 : decode cX1_fillJournal 14 = .ok (.iadd, 1) := by decide +kernel
theorem dX1_fillJournal_15 : decode cX1_fillJournal 15 = .ok (.if_icmp .ge 42, 3) := by decide +kernel
theorem dX1_fillJournal_18 : decode cX1_fillJournal 18 = .ok (.aload_n 0, 1) := by decide +kernel
theorem dX1_fillJournal_19 : decode cX1_fillJournal 19 = .ok (.getfield 41, 3) := by decide +kernel
theorem dX1_fillJournal_22 : decode cX1_fillJournal 22 = .ok (.iload_n 2, 1) := by decide +kernel
theorem dX1_fillJournal_23 : decode cX1_fillJournal 23 = .ok (.baload, 1) := by decide +kernel
theorem dX1_fillJournal_24 : decode cX1_fillJournal 24 = .ok (.ifCond .eq 27, 3) := by decide +kernel
theorem dX1_fillJournal_27 : decode cX1_fillJournal 27 = .ok (.aload_n 0, 1) := by decide +kernel
theorem dX1_fillJournal_28 : decode cX1_fillJournal 28 = .ok (.iload_n 1, 1) := by decide +kernel
theorem dX1_fillJournal_29 : decode cX1_fillJournal 29 = .ok (.aload_n 0, 1) := by decide +kernel
theorem dX1_fillJournal_30 : decode cX1_fillJournal 30 = .ok (.getfield 35, 3) := by decide +kernel
theorem dX1_fillJournal_33 : decode cX1_fillJournal 33 = .ok (.iload_n 2, 1) := by decide +kernel
theorem dX1_fillJournal_34 : decode cX1_fillJournal 34 = .ok (.iaload, 1) := by decide +kernel
theorem dX1_fillJournal_35 : decode cX1_fillJournal 35 = .ok (.aload_n 0, 1) := by decide +kernel
theorem dX1_fillJournal_36 : decode cX1_fillJournal 36 = .ok (.getfield 38, 3) := by decide +kernel
theorem dX1_fillJournal_39 : decode cX1_fillJournal 39 = .ok (.iload_n 2, 1) := by decide +kernel
theorem dX1_fillJournal_40 : decode cX1_fillJournal 40 = .ok (.iaload, 1) := by decide +kernel
theorem dX1_fillJournal_41 : decode cX1_fillJournal 41 = .ok (.invokevirtual 66, 3) := by decide +kernel
theorem dX1_fillJournal_44 : decode cX1_fillJournal 44 = .ok (.aload_n 0, 1) := by decide +kernel
theorem dX1_fillJournal_45 : decode cX1_fillJournal 45 = .ok (.getfield 41, 3) := by decide +kernel
theorem dX1_fillJournal_48 : decode cX1_fillJournal 48 = .ok (.iload_n 2, 1) := by decide +kernel
theorem dX1_fillJournal_49 : decode cX1_fillJournal 49 = .ok (.iconst 0, 1) := by decide +kernel
theorem dX1_fillJournal_50 : decode cX1_fillJournal 50 = .ok (.bastore, 1) := by decide +kernel
theorem dX1_fillJournal_51 : decode cX1_fillJournal 51 = .ok (.iinc 2 1, 3) := by decide +kernel
theorem dX1_fillJournal_54 : decode cX1_fillJournal 54 = .ok (.goto (-49), 3) := by decide +kernel
theorem dX1_fillJournal_57 : decode cX1_fillJournal 57 = .ok (.return_, 1) := by decide +kernel
abbrev cX1_writeJournal : ByteArray := prog_1_method_5_code
def yX1_writeJournal : MethodName := ⟨RX1, "writeJournal", "(III)V"⟩
theorem dX1_writeJournal_0 : decode cX1_writeJournal 0 = .ok (.aload_n 0, 1) := by decide +kernel
theorem dX1_writeJournal_1 : decode cX1_writeJournal 1 = .ok (.iload_n 1, 1) := by decide +kernel
theorem dX1_writeJournal_2 : decode cX1_writeJournal 2 = .ok (.iload_n 2, 1) := by decide +kernel
theorem dX1_writeJournal_3 : decode cX1_writeJournal 3 = .ok (.invokevirtual 51, 3) := by decide +kernel
theorem dX1_writeJournal_6 : decode cX1_writeJournal 6 = .ok (.istore 4, 2) := by decide +kernel
theorem dX1_writeJournal_8 : decode cX1_writeJournal 8 = .ok (.iload 4, 2) := by decide +kernel
theorem dX1_writeJournal_10 : decode cX1_writeJournal 10 = .ok (.ifCond .ge 26, 3) := by decide +kernel
theorem dX1_writeJournal_13 : decode cX1_writeJournal 13 = .ok (.iload_n 1, 1) := by decide +kernel
theorem dX1_writeJournal_14 : decode cX1_writeJournal 14 = .ok (.bipush 16, 2) := by decide +kernel
theorem dX1_writeJournal_16 : decode cX1_writeJournal 16 = .ok (.imul, 1) := by decide +kernel
theorem dX1_writeJournal_17 : decode cX1_writeJournal 17 = .ok (.aload_n 0, 1) := by decide +kernel
theorem dX1_writeJournal_18 : decode cX1_writeJournal 18 = .ok (.getfield 17, 3) := by decide +kernel
theorem dX1_writeJournal_21 : decode cX1_writeJournal 21 = .ok (.iload_n 1, 1) := by decide +kernel
theorem dX1_writeJournal_22 : decode cX1_writeJournal 22 = .ok (.iaload, 1) := by decide +kernel
theorem dX1_writeJournal_23 : decode cX1_writeJournal 23 = .ok (.iadd, 1) := by decide +kernel
theorem dX1_writeJournal_24 : decode cX1_writeJournal 24 = .ok (.istore 4, 2) := by decide +kernel
theorem dX1_writeJournal_26 : decode cX1_writeJournal 26 = .ok (.aload_n 0, 1) := by decide +kernel
theorem dX1_writeJournal_27 : decode cX1_writeJournal 27 = .ok (.getfield 17, 3) := by decide +kernel
theorem dX1_writeJournal_30 : decode cX1_writeJournal 30 = .ok (.iload_n 1, 1) := by decide +kernel
theorem dX1_writeJournal_31 : decode cX1_writeJournal 31 = .ok (.dup2, 1) := by decide +kernel
theorem dX1_writeJournal_32 : decode cX1_writeJournal 32 = .ok (.iaload, 1) := by decide +kernel
theorem dX1_writeJournal_33 : decode cX1_writeJournal 33 = .ok (.iconst 1, 1) := by decide +kernel
theorem dX1_writeJournal_34 : decode cX1_writeJournal 34 = .ok (.iadd, 1) := by decide +kernel
theorem dX1_writeJournal_35 : decode cX1_writeJournal 35 = .ok (.iastore, 1) := by decide +kernel
theorem dX1_writeJournal_36 : decode cX1_writeJournal 36 = .ok (.aload_n 0, 1) := by decide +kernel
theorem dX1_writeJournal_37 : decode cX1_writeJournal 37 = .ok (.getfield 20, 3) := by decide +kernel
theorem dX1_writeJournal_40 : decode cX1_writeJournal 40 = .ok (.iload 4, 2) := by decide +kernel
theorem dX1_writeJournal_42 : decode cX1_writeJournal 42 = .ok (.iload_n 2, 1) := by decide +kernel
theorem dX1_writeJournal_43 : decode cX1_writeJournal 43 = .ok (.iastore, 1) := by decide +kernel
theorem dX1_writeJournal_44 : decode cX1_writeJournal 44 = .ok (.aload_n 0, 1) := by decide +kernel
theorem dX1_writeJournal_45 : decode cX1_writeJournal 45 = .ok (.getfield 23, 3) := by decide +kernel
theorem dX1_writeJournal_48 : decode cX1_writeJournal 48 = .ok (.iload 4, 2) := by decide +kernel
theorem dX1_writeJournal_50 : decode cX1_writeJournal 50 = .ok (.iload_n 3, 1) := by decide +kernel
theorem dX1_writeJournal_51 : decode cX1_writeJournal 51 = .ok (.iastore, 1) := by decide +kernel
theorem dX1_writeJournal_52 : decode cX1_writeJournal 52 = .ok (.return_, 1) := by decide +kernel
abbrev cX1_markJournal : ByteArray := prog_1_method_7_code
def yX1_markJournal : MethodName := ⟨RX1, "markJournal", "(I)V"⟩
theorem dX1_markJournal_0 : decode cX1_markJournal 0 = .ok (.aload_n 0, 1) := by decide +kernel
theorem dX1_markJournal_1 : decode cX1_markJournal 1 = .ok (.getfield 26, 3) := by decide +kernel
theorem dX1_markJournal_4 : decode cX1_markJournal 4 = .ok (.iload_n 1, 1) := by decide +kernel
theorem dX1_markJournal_5 : decode cX1_markJournal 5 = .ok (.aload_n 0, 1) := by decide +kernel
theorem dX1_markJournal_6 : decode cX1_markJournal 6 = .ok (.iload_n 1, 1) := by decide +kernel
theorem dX1_markJournal_7 : decode cX1_markJournal 7 = .ok (.invokevirtual 55, 3) := by decide +kernel
theorem dX1_markJournal_10 : decode cX1_markJournal 10 = .ok (.iastore, 1) := by decide +kernel
theorem dX1_markJournal_11 : decode cX1_markJournal 11 = .ok (.aload_n 0, 1) := by decide +kernel
theorem dX1_markJournal_12 : decode cX1_markJournal 12 = .ok (.getfield 29, 3) := by decide +kernel
theorem dX1_markJournal_15 : decode cX1_markJournal 15 = .ok (.iload_n 1, 1) := by decide +kernel
theorem dX1_markJournal_16 : decode cX1_markJournal 16 = .ok (.iconst 1, 1) := by decide +kernel
theorem dX1_markJournal_17 : decode cX1_markJournal 17 = .ok (.bastore, 1) := by decide +kernel
theorem dX1_markJournal_18 : decode cX1_markJournal 18 = .ok (.return_, 1) := by decide +kernel
abbrev cX1_sumOf : ByteArray := prog_1_method_6_code
def yX1_sumOf : MethodName := ⟨RX1, "sumOf", "(I)I"⟩
theorem dX1_sumOf_0 : decode cX1_sumOf 0 = .ok (.bipush 7, 2) := by decide +kernel
theorem dX1_sumOf_2 : decode cX1_sumOf 2 = .ok (.aload_n 0, 1) := by decide +kernel
theorem dX1_sumOf_3 : decode cX1_sumOf 3 = .ok (.getfield 17, 3) := by decide +kernel
theorem dX1_sumOf_6 : decode cX1_sumOf 6 = .ok (.iload_n 1, 1) := by decide +kernel
theorem dX1_sumOf_7 : decode cX1_sumOf 7 = .ok (.iaload, 1) := by decide +kernel
theorem dX1_sumOf_8 : decode cX1_sumOf 8 = .ok (.iadd, 1) := by decide +kernel
theorem dX1_sumOf_9 : decode cX1_sumOf 9 = .ok (.istore_n 2, 1) := by decide +kernel
theorem dX1_sumOf_10 : decode cX1_sumOf 10 = .ok (.iload_n 1, 1) := by decide +kernel
theorem dX1_sumOf_11 : decode cX1_sumOf 11 = .ok (.bipush 16, 2) := by decide +kernel
theorem dX1_sumOf_13 : decode cX1_sumOf 13 = .ok (.imul, 1) := by decide +kernel
theorem dX1_sumOf_14 : decode cX1_sumOf 14 = .ok (.istore_n 3, 1) := by decide +kernel
theorem dX1_sumOf_15 : decode cX1_sumOf 15 = .ok (.iload_n 3, 1) := by decide +kernel
theorem dX1_sumOf_16 : decode cX1_sumOf 16 = .ok (.iload_n 1, 1) := by decide +kernel
theorem dX1_sumOf_17 : decode cX1_sumOf 17 = .ok (.bipush 16, 2) := by decide +kernel
theorem dX1_sumOf_19 : decode cX1_sumOf 19 = .ok (.imul, 1) := by decide +kernel
theorem dX1_sumOf_20 : decode cX1_sumOf 20 = .ok (.aload_n 0, 1) := by decide +kernel
theorem dX1_sumOf_21 : decode cX1_sumOf 21 = .ok (.getfield 17, 3) := by decide +kernel
theorem dX1_sumOf_24 : decode cX1_sumOf 24 = .ok (.iload_n 1, 1) := by decide +kernel
theorem dX1_sumOf_25 : decode cX1_sumOf 25 = .ok (.iaload, 1) := by decide +kernel
theorem dX1_sumOf_26 : decode cX1_sumOf 26 = .ok (.iadd, 1) := by decide +kernel
theorem dX1_sumOf_27 : decode cX1_sumOf 27 = .ok (.if_icmp .ge 33, 3) := by decide +kernel
theorem dX1_sumOf_30 : decode cX1_sumOf 30 = .ok (.iload_n 2, 1) := by decide +kernel
theorem dX1_sumOf_31 : decode cX1_sumOf 31 = .ok (.bipush 31, 2) := by decide +kernel
theorem dX1_sumOf_33 : decode cX1_sumOf 33 = .ok (.imul, 1) := by decide +kernel
theorem dX1_sumOf_34 : decode cX1_sumOf 34 = .ok (.aload_n 0, 1) := by decide +kernel
theorem dX1_sumOf_35 : decode cX1_sumOf 35 = .ok (.getfield 20, 3) := by decide +kernel
theorem dX1_sumOf_38 : decode cX1_sumOf 38 = .ok (.iload_n 3, 1) := by decide +kernel
theorem dX1_sumOf_39 : decode cX1_sumOf 39 = .ok (.iaload, 1) := by decide +kernel
theorem dX1_sumOf_40 : decode cX1_sumOf 40 = .ok (.iadd, 1) := by decide +kernel
theorem dX1_sumOf_41 : decode cX1_sumOf 41 = .ok (.istore_n 2, 1) := by decide +kernel
theorem dX1_sumOf_42 : decode cX1_sumOf 42 = .ok (.iload_n 2, 1) := by decide +kernel
theorem dX1_sumOf_43 : decode cX1_sumOf 43 = .ok (.bipush 31, 2) := by decide +kernel
theorem dX1_sumOf_45 : decode cX1_sumOf 45 = .ok (.imul, 1) := by decide +kernel
theorem dX1_sumOf_46 : decode cX1_sumOf 46 = .ok (.aload_n 0, 1) := by decide +kernel
theorem dX1_sumOf_47 : decode cX1_sumOf 47 = .ok (.getfield 23, 3) := by decide +kernel
theorem dX1_sumOf_50 : decode cX1_sumOf 50 = .ok (.iload_n 3, 1) := by decide +kernel
theorem dX1_sumOf_51 : decode cX1_sumOf 51 = .ok (.iaload, 1) := by decide +kernel
theorem dX1_sumOf_52 : decode cX1_sumOf 52 = .ok (.iadd, 1) := by decide +kernel
theorem dX1_sumOf_53 : decode cX1_sumOf 53 = .ok (.istore_n 2, 1) := by decide +kernel
theorem dX1_sumOf_54 : decode cX1_sumOf 54 = .ok (.iinc 3 1, 3) := by decide +kernel
theorem dX1_sumOf_57 : decode cX1_sumOf 57 = .ok (.goto (-42), 3) := by decide +kernel
theorem dX1_sumOf_60 : decode cX1_sumOf 60 = .ok (.iload_n 2, 1) := by decide +kernel
theorem dX1_sumOf_61 : decode cX1_sumOf 61 = .ok (.ireturn, 1) := by decide +kernel
abbrev cX1_bringHome : ByteArray := prog_1_method_9_code
def yX1_bringHome : MethodName := ⟨RX1, "bringHome", "(I)V"⟩
theorem dX1_bringHome_0 : decode cX1_bringHome 0 = .ok (.iload_n 1, 1) := by decide +kernel
theorem dX1_bringHome_1 : decode cX1_bringHome 1 = .ok (.bipush 16, 2) := by decide +kernel
theorem dX1_bringHome_3 : decode cX1_bringHome 3 = .ok (.imul, 1) := by decide +kernel
theorem dX1_bringHome_4 : decode cX1_bringHome 4 = .ok (.istore_n 2, 1) := by decide +kernel
theorem dX1_bringHome_5 : decode cX1_bringHome 5 = .ok (.iload_n 2, 1) := by decide +kernel
theorem dX1_bringHome_6 : decode cX1_bringHome 6 = .ok (.iload_n 1, 1) := by decide +kernel
theorem dX1_bringHome_7 : decode cX1_bringHome 7 = .ok (.bipush 16, 2) := by decide +kernel
theorem dX1_bringHome_9 : decode cX1_bringHome 9 = .ok (.imul, 1) := by decide +kernel
theorem dX1_bringHome_10 : decode cX1_bringHome 10 = .ok (.aload_n 0, 1) := by decide +kernel
theorem dX1_bringHome_11 : decode cX1_bringHome 11 = .ok (.getfield 17, 3) := by decide +kernel
theorem dX1_bringHome_14 : decode cX1_bringHome 14 = .ok (.iload_n 1, 1) := by decide +kernel
theorem dX1_bringHome_15 : decode cX1_bringHome 15 = .ok (.iaload, 1) := by decide +kernel
theorem dX1_bringHome_16 : decode cX1_bringHome 16 = .ok (.iadd, 1) := by decide +kernel
theorem dX1_bringHome_17 : decode cX1_bringHome 17 = .ok (.if_icmp .ge 26, 3) := by decide +kernel
theorem dX1_bringHome_20 : decode cX1_bringHome 20 = .ok (.aload_n 0, 1) := by decide +kernel
theorem dX1_bringHome_21 : decode cX1_bringHome 21 = .ok (.getfield 13, 3) := by decide +kernel
theorem dX1_bringHome_24 : decode cX1_bringHome 24 = .ok (.aload_n 0, 1) := by decide +kernel
theorem dX1_bringHome_25 : decode cX1_bringHome 25 = .ok (.getfield 20, 3) := by decide +kernel
theorem dX1_bringHome_28 : decode cX1_bringHome 28 = .ok (.iload_n 2, 1) := by decide +kernel
theorem dX1_bringHome_29 : decode cX1_bringHome 29 = .ok (.iaload, 1) := by decide +kernel
theorem dX1_bringHome_30 : decode cX1_bringHome 30 = .ok (.aload_n 0, 1) := by decide +kernel
theorem dX1_bringHome_31 : decode cX1_bringHome 31 = .ok (.getfield 23, 3) := by decide +kernel
theorem dX1_bringHome_34 : decode cX1_bringHome 34 = .ok (.iload_n 2, 1) := by decide +kernel
theorem dX1_bringHome_35 : decode cX1_bringHome 35 = .ok (.iaload, 1) := by decide +kernel
theorem dX1_bringHome_36 : decode cX1_bringHome 36 = .ok (.iastore, 1) := by decide +kernel
theorem dX1_bringHome_37 : decode cX1_bringHome 37 = .ok (.iinc 2 1, 3) := by decide +kernel
theorem dX1_bringHome_40 : decode cX1_bringHome 40 = .ok (.goto (-35), 3) := by decide +kernel
theorem dX1_bringHome_43 : decode cX1_bringHome 43 = .ok (.aload_n 0, 1) := by decide +kernel
theorem dX1_bringHome_44 : decode cX1_bringHome 44 = .ok (.iload_n 1, 1) := by decide +kernel
theorem dX1_bringHome_45 : decode cX1_bringHome 45 = .ok (.invokevirtual 59, 3) := by decide +kernel
theorem dX1_bringHome_48 : decode cX1_bringHome 48 = .ok (.return_, 1) := by decide +kernel
abbrev cX1_emptyJournal : ByteArray := prog_1_method_10_code
def yX1_emptyJournal : MethodName := ⟨RX1, "emptyJournal", "(I)V"⟩
theorem dX1_emptyJournal_0 : decode cX1_emptyJournal 0 = .ok (.aload_n 0, 1) := by decide +kernel
theorem dX1_emptyJournal_1 : decode cX1_emptyJournal 1 = .ok (.getfield 17, 3) := by decide +kernel
theorem dX1_emptyJournal_4 : decode cX1_emptyJournal 4 = .ok (.iload_n 1, 1) := by decide +kernel
theorem dX1_emptyJournal_5 : decode cX1_emptyJournal 5 = .ok (.iconst 0, 1) := by decide +kernel
theorem dX1_emptyJournal_6 : decode cX1_emptyJournal 6 = .ok (.iastore, 1) := by decide +kernel
theorem dX1_emptyJournal_7 : decode cX1_emptyJournal 7 = .ok (.aload_n 0, 1) := by decide +kernel
theorem dX1_emptyJournal_8 : decode cX1_emptyJournal 8 = .ok (.getfield 29, 3) := by decide +kernel
theorem dX1_emptyJournal_11 : decode cX1_emptyJournal 11 = .ok (.iload_n 1, 1) := by decide +kernel
theorem dX1_emptyJournal_12 : decode cX1_emptyJournal 12 = .ok (.iconst 0, 1) := by decide +kernel
theorem dX1_emptyJournal_13 : decode cX1_emptyJournal 13 = .ok (.bastore, 1) := by decide +kernel
theorem dX1_emptyJournal_14 : decode cX1_emptyJournal 14 = .ok (.return_, 1) := by decide +kernel
abbrev cX1_forget : ByteArray := prog_1_method_14_code
def yX1_forget : MethodName := ⟨RX1, "forget", "(II)V"⟩
theorem dX1_forget_0 : decode cX1_forget 0 = .ok (.aload_n 0, 1) := by decide +kernel
theorem dX1_forget_1 : decode cX1_forget 1 = .ok (.iload_n 1, 1) := by decide +kernel
theorem dX1_forget_2 : decode cX1_forget 2 = .ok (.iload_n 2, 1) := by decide +kernel
theorem dX1_forget_3 : decode cX1_forget 3 = .ok (.invokevirtual 63, 3) := by decide +kernel
theorem dX1_forget_6 : decode cX1_forget 6 = .ok (.istore_n 3, 1) := by decide +kernel
theorem dX1_forget_7 : decode cX1_forget 7 = .ok (.iload_n 3, 1) := by decide +kernel
theorem dX1_forget_8 : decode cX1_forget 8 = .ok (.ifCond .lt 8, 3) := by decide +kernel
theorem dX1_forget_11 : decode cX1_forget 11 = .ok (.aload_n 0, 1) := by decide +kernel
theorem dX1_forget_12 : decode cX1_forget 12 = .ok (.iload_n 3, 1) := by decide +kernel
theorem dX1_forget_13 : decode cX1_forget 13 = .ok (.invokevirtual 70, 3) := by decide +kernel
theorem dX1_forget_16 : decode cX1_forget 16 = .ok (.return_, 1) := by decide +kernel
abbrev cX1_dropCell : ByteArray := prog_1_method_13_code
def yX1_dropCell : MethodName := ⟨RX1, "dropCell", "(I)V"⟩
theorem dX1_dropCell_0 : decode cX1_dropCell 0 = .ok (.aload_n 0, 1) := by decide +kernel
theorem dX1_dropCell_1 : decode cX1_dropCell 1 = .ok (.getfield 35, 3) := by decide +kernel
theorem dX1_dropCell_4 : decode cX1_dropCell 4 = .ok (.iload_n 1, 1) := by decide +kernel
theorem dX1_dropCell_5 : decode cX1_dropCell 5 = .ok (.iconst (-1), 1) := by decide +kernel
theorem dX1_dropCell_6 : decode cX1_dropCell 6 = .ok (.iastore, 1) := by decide +kernel
theorem dX1_dropCell_7 : decode cX1_dropCell 7 = .ok (.aload_n 0, 1) := by decide +kernel
theorem dX1_dropCell_8 : decode cX1_dropCell 8 = .ok (.getfield 41, 3) := by decide +kernel
theorem dX1_dropCell_11 : decode cX1_dropCell 11 = .ok (.iload_n 1, 1) := by decide +kernel
theorem dX1_dropCell_12 : decode cX1_dropCell 12 = .ok (.iconst 0, 1) := by decide +kernel
theorem dX1_dropCell_13 : decode cX1_dropCell 13 = .ok (.bastore, 1) := by decide +kernel
theorem dX1_dropCell_14 : decode cX1_dropCell 14 = .ok (.return_, 1) := by decide +kernel
abbrev cX1_bringIn : ByteArray := prog_1_method_15_code
def yX1_bringIn : MethodName := ⟨RX1, "bringIn", "(II)I"⟩
theorem dX1_bringIn_0 : decode cX1_bringIn 0 = .ok (.aload_n 0, 1) := by decide +kernel
theorem dX1_bringIn_1 : decode cX1_bringIn 1 = .ok (.iload_n 1, 1) := by decide +kernel
theorem dX1_bringIn_2 : decode cX1_bringIn 2 = .ok (.iload_n 2, 1) := by decide +kernel
theorem dX1_bringIn_3 : decode cX1_bringIn 3 = .ok (.invokevirtual 63, 3) := by decide +kernel
theorem dX1_bringIn_6 : decode cX1_bringIn 6 = .ok (.istore_n 3, 1) := by decide +kernel
theorem dX1_bringIn_7 : decode cX1_bringIn 7 = .ok (.iload_n 3, 1) := by decide +kernel
theorem dX1_bringIn_8 : decode cX1_bringIn 8 = .ok (.ifCond .lt 5, 3) := by decide +kernel
theorem dX1_bringIn_11 : decode cX1_bringIn 11 = .ok (.iload_n 3, 1) := by decide +kernel
theorem dX1_bringIn_12 : decode cX1_bringIn 12 = .ok (.ireturn, 1) := by decide +kernel
theorem dX1_bringIn_13 : decode cX1_bringIn 13 = .ok (.aload_n 0, 1) := by decide +kernel
theorem dX1_bringIn_14 : decode cX1_bringIn 14 = .ok (.iload_n 1, 1) := by decide +kernel
theorem dX1_bringIn_15 : decode cX1_bringIn 15 = .ok (.invokevirtual 73, 3) := by decide +kernel
theorem dX1_bringIn_18 : decode cX1_bringIn 18 = .ok (.istore_n 3, 1) := by decide +kernel
theorem dX1_bringIn_19 : decode cX1_bringIn 19 = .ok (.aload_n 0, 1) := by decide +kernel
theorem dX1_bringIn_20 : decode cX1_bringIn 20 = .ok (.iload_n 1, 1) := by decide +kernel
theorem dX1_bringIn_21 : decode cX1_bringIn 21 = .ok (.iload_n 2, 1) := by decide +kernel
theorem dX1_bringIn_22 : decode cX1_bringIn 22 = .ok (.invokevirtual 51, 3) := by decide +kernel
theorem dX1_bringIn_25 : decode cX1_bringIn 25 = .ok (.istore 4, 2) := by decide +kernel
theorem dX1_bringIn_27 : decode cX1_bringIn 27 = .ok (.aload_n 0, 1) := by decide +kernel
theorem dX1_bringIn_28 : decode cX1_bringIn 28 = .ok (.getfield 35, 3) := by decide +kernel
theorem dX1_bringIn_31 : decode cX1_bringIn 31 = .ok (.iload_n 3, 1) := by decide +kernel
theorem dX1_bringIn_32 : decode cX1_bringIn 32 = .ok (.iload_n 2, 1) := by decide +kernel
theorem dX1_bringIn_33 : decode cX1_bringIn 33 = .ok (.iastore, 1) := by decide +kernel
theorem dX1_bringIn_34 : decode cX1_bringIn 34 = .ok (.aload_n 0, 1) := by decide +kernel
theorem dX1_bringIn_35 : decode cX1_bringIn 35 = .ok (.getfield 38, 3) := by decide +kernel
theorem dX1_bringIn_38 : decode cX1_bringIn 38 = .ok (.iload_n 3, 1) := by decide +kernel
theorem dX1_bringIn_39 : decode cX1_bringIn 39 = .ok (.iload 4, 2) := by decide +kernel
theorem dX1_bringIn_41 : decode cX1_bringIn 41 = .ok (.ifCond .lt 13, 3) := by decide +kernel
theorem dX1_bringIn_44 : decode cX1_bringIn 44 = .ok (.aload_n 0, 1) := by decide +kernel
theorem dX1_bringIn_45 : decode cX1_bringIn 45 = .ok (.getfield 23, 3) := by decide +kernel
theorem dX1_bringIn_48 : decode cX1_bringIn 48 = .ok (.iload 4, 2) := by decide +kernel
theorem dX1_bringIn_50 : decode cX1_bringIn 50 = .ok (.iaload, 1) := by decide +kernel
theorem dX1_bringIn_51 : decode cX1_bringIn 51 = .ok (.goto 9, 3) := by decide +kernel
theorem dX1_bringIn_54 : decode cX1_bringIn 54 = .ok (.aload_n 0, 1) := by decide +kernel
theorem dX1_bringIn_55 : decode cX1_bringIn 55 = .ok (.getfield 13, 3) := by decide +kernel
theorem dX1_bringIn_58 : decode cX1_bringIn 58 = .ok (.iload_n 2, 1) := by decide +kernel
theorem dX1_bringIn_59 : decode cX1_bringIn 59 = .ok (.iaload, 1) := by decide +kernel
theorem dX1_bringIn_60 : decode cX1_bringIn 60 = .ok (.iastore, 1) := by decide +kernel
theorem dX1_bringIn_61 : decode cX1_bringIn 61 = .ok (.iload_n 3, 1) := by decide +kernel
theorem dX1_bringIn_62 : decode cX1_bringIn 62 = .ok (.ireturn, 1) := by decide +kernel
abbrev cX1_freeCell : ByteArray := prog_1_method_12_code
def yX1_freeCell : MethodName := ⟨RX1, "freeCell", "(I)I"⟩
theorem dX1_freeCell_0 : decode cX1_freeCell 0 = .ok (.aload_n 0, 1) := by decide +kernel
theorem dX1_freeCell_1 : decode cX1_freeCell 1 = .ok (.iload_n 1, 1) := by decide +kernel
theorem dX1_freeCell_2 : decode cX1_freeCell 2 = .ok (.iconst (-1), 1) := by decide +kernel
theorem dX1_freeCell_3 : decode cX1_freeCell 3 = .ok (.invokevirtual 63, 3) := by decide +kernel
theorem dX1_freeCell_6 : decode cX1_freeCell 6 = .ok (.istore_n 2, 1) := by decide +kernel
theorem dX1_freeCell_7 : decode cX1_freeCell 7 = .ok (.iload_n 2, 1) := by decide +kernel
theorem dX1_freeCell_8 : decode cX1_freeCell 8 = .ok (.ifCond .lt 5, 3) := by decide +kernel
theorem dX1_freeCell_11 : decode cX1_freeCell 11 = .ok (.iload_n 2, 1) := by decide +kernel
theorem dX1_freeCell_12 : decode cX1_freeCell 12 = .ok (.ireturn, 1) := by decide +kernel
theorem dX1_freeCell_13 : decode cX1_freeCell 13 = .ok (.iload_n 1, 1) := by decide +kernel
theorem dX1_freeCell_14 : decode cX1_freeCell 14 = .ok (.bipush 8, 2) := by decide +kernel
theorem dX1_freeCell_16 : decode cX1_freeCell 16 = .ok (.imul, 1) := by decide +kernel
theorem dX1_freeCell_17 : decode cX1_freeCell 17 = .ok (.aload_n 0, 1) := by decide +kernel
theorem dX1_freeCell_18 : decode cX1_freeCell 18 = .ok (.getfield 44, 3) := by decide +kernel
theorem dX1_freeCell_21 : decode cX1_freeCell 21 = .ok (.iload_n 1, 1) := by decide +kernel
theorem dX1_freeCell_22 : decode cX1_freeCell 22 = .ok (.iaload, 1) := by decide +kernel
theorem dX1_freeCell_23 : decode cX1_freeCell 23 = .ok (.iadd, 1) := by decide +kernel
theorem dX1_freeCell_24 : decode cX1_freeCell 24 = .ok (.istore_n 3, 1) := by decide +kernel
theorem dX1_freeCell_25 : decode cX1_freeCell 25 = .ok (.aload_n 0, 1) := by decide +kernel
theorem dX1_freeCell_26 : decode cX1_freeCell 26 = .ok (.getfield 44, 3) := by decide +kernel
theorem dX1_freeCell_29 : decode cX1_freeCell 29 = .ok (.iload_n 1, 1) := by decide +kernel
theorem dX1_freeCell_30 : decode cX1_freeCell 30 = .ok (.aload_n 0, 1) := by decide +kernel
theorem dX1_freeCell_31 : decode cX1_freeCell 31 = .ok (.getfield 44, 3) := by decide +kernel
theorem dX1_freeCell_34 : decode cX1_freeCell 34 = .ok (.iload_n 1, 1) := by decide +kernel
theorem dX1_freeCell_35 : decode cX1_freeCell 35 = .ok (.iaload, 1) := by decide +kernel
theorem dX1_freeCell_36 : decode cX1_freeCell 36 = .ok (.iconst 1, 1) := by decide +kernel
theorem dX1_freeCell_37 : decode cX1_freeCell 37 = .ok (.iadd, 1) := by decide +kernel
theorem dX1_freeCell_38 : decode cX1_freeCell 38 = .ok (.aload_n 0, 1) := by decide +kernel
theorem dX1_freeCell_39 : decode cX1_freeCell 39 = .ok (.getfield 47, 3) := by decide +kernel
theorem dX1_freeCell_42 : decode cX1_freeCell 42 = .ok (.if_icmp .lt 7, 3) := by decide +kernel
theorem dX1_freeCell_45 : decode cX1_freeCell 45 = .ok (.iconst 0, 1) := by decide +kernel
theorem dX1_freeCell_46 : decode cX1_freeCell 46 = .ok (.goto 11, 3) := by decide +kernel
theorem dX1_freeCell_49 : decode cX1_freeCell 49 = .ok (.aload_n 0, 1) := by decide +kernel
theorem dX1_freeCell_50 : decode cX1_freeCell 50 = .ok (.getfield 44, 3) := by decide +kernel
theorem dX1_freeCell_53 : decode cX1_freeCell 53 = .ok (.iload_n 1, 1) := by decide +kernel
theorem dX1_freeCell_54 : decode cX1_freeCell 54 = .ok (.iaload, 1) := by decide +kernel
theorem dX1_freeCell_55 : decode cX1_freeCell 55 = .ok (.iconst 1, 1) := by decide +kernel
theorem dX1_freeCell_56 : decode cX1_freeCell 56 = .ok (.iadd, 1) := by decide +kernel
theorem dX1_freeCell_57 : decode cX1_freeCell 57 = .ok (.iastore, 1) := by decide +kernel
theorem dX1_freeCell_58 : decode cX1_freeCell 58 = .ok (.aload_n 0, 1) := by decide +kernel
theorem dX1_freeCell_59 : decode cX1_freeCell 59 = .ok (.getfield 41, 3) := by decide +kernel
theorem dX1_freeCell_62 : decode cX1_freeCell 62 = .ok (.iload_n 3, 1) := by decide +kernel
theorem dX1_freeCell_63 : decode cX1_freeCell 63 = .ok (.baload, 1) := by decide +kernel
theorem dX1_freeCell_64 : decode cX1_freeCell 64 = .ok (.ifCond .eq 20, 3) := by decide +kernel
theorem dX1_freeCell_67 : decode cX1_freeCell 67 = .ok (.aload_n 0, 1) := by decide +kernel
theorem dX1_freeCell_68 : decode cX1_freeCell 68 = .ok (.iload_n 1, 1) := by decide +kernel
theorem dX1_freeCell_69 : decode cX1_freeCell 69 = .ok (.aload_n 0, 1) := by decide +kernel
theorem dX1_freeCell_70 : decode cX1_freeCell 70 = .ok (.getfield 35, 3) := by decide +kernel
theorem dX1_freeCell_73 : decode cX1_freeCell 73 = .ok (.iload_n 3, 1) := by decide +kernel
theorem dX1_freeCell_74 : decode cX1_freeCell 74 = .ok (.iaload, 1) := by decide +kernel
theorem dX1_freeCell_75 : decode cX1_freeCell 75 = .ok (.aload_n 0, 1) := by decide +kernel
theorem dX1_freeCell_76 : decode cX1_freeCell 76 = .ok (.getfield 38, 3) := by decide +kernel
theorem dX1_freeCell_79 : decode cX1_freeCell 79 = .ok (.iload_n 3, 1) := by decide +kernel
theorem dX1_freeCell_80 : decode cX1_freeCell 80 = .ok (.iaload, 1) := by decide +kernel
theorem dX1_freeCell_81 : decode cX1_freeCell 81 = .ok (.invokevirtual 66, 3) := by decide +kernel
theorem dX1_freeCell_84 : decode cX1_freeCell 84 = .ok (.aload_n 0, 1) := by decide +kernel
theorem dX1_freeCell_85 : decode cX1_freeCell 85 = .ok (.iload_n 3, 1) := by decide +kernel
theorem dX1_freeCell_86 : decode cX1_freeCell 86 = .ok (.invokevirtual 70, 3) := by decide +kernel
theorem dX1_freeCell_89 : decode cX1_freeCell 89 = .ok (.iload_n 3, 1) := by decide +kernel
theorem dX1_freeCell_90 : decode cX1_freeCell 90 = .ok (.ireturn, 1) := by decide +kernel
abbrev cX1_write : ByteArray := prog_1_method_25_code
def yX1_write : MethodName := ⟨RX1, "write", "(III)I"⟩
theorem dX1_write_0 : decode cX1_write 0 = .ok (.iload_n 1, 1) := by decide +kernel
theorem dX1_write_1 : decode cX1_write 1 = .ok (.invokestatic 108, 3) := by decide +kernel
theorem dX1_write_4 : decode cX1_write 4 = .ok (.ifCond .eq 5, 3) := by decide +kernel
theorem dX1_write_7 : decode cX1_write 7 = .ok (.iconst (-1), 1) := by decide +kernel
theorem dX1_write_8 : decode cX1_write 8 = .ok (.ireturn, 1) := by decide +kernel
theorem dX1_write_9 : decode cX1_write 9 = .ok (.iload_n 2, 1) := by decide +kernel
theorem dX1_write_10 : decode cX1_write 10 = .ok (.invokestatic 112, 3) := by decide +kernel
theorem dX1_write_13 : decode cX1_write 13 = .ok (.ifCond .eq 6, 3) := by decide +kernel
theorem dX1_write_16 : decode cX1_write 16 = .ok (.bipush (-2), 2) := by decide +kernel
theorem dX1_write_18 : decode cX1_write 18 = .ok (.ireturn, 1) := by decide +kernel
theorem dX1_write_19 : decode cX1_write 19 = .ok (.aload_n 0, 1) := by decide +kernel
theorem dX1_write_20 : decode cX1_write 20 = .ok (.getfield 7, 3) := by decide +kernel
theorem dX1_write_23 : decode cX1_write 23 = .ok (.iload_n 1, 1) := by decide +kernel
theorem dX1_write_24 : decode cX1_write 24 = .ok (.baload, 1) := by decide +kernel
theorem dX1_write_25 : decode cX1_write 25 = .ok (.ifCond .ne 6, 3) := by decide +kernel
theorem dX1_write_28 : decode cX1_write 28 = .ok (.bipush (-3), 2) := by decide +kernel
theorem dX1_write_30 : decode cX1_write 30 = .ok (.ireturn, 1) := by decide +kernel
theorem dX1_write_31 : decode cX1_write 31 = .ok (.aload_n 0, 1) := by decide +kernel
theorem dX1_write_32 : decode cX1_write 32 = .ok (.iload_n 1, 1) := by decide +kernel
theorem dX1_write_33 : decode cX1_write 33 = .ok (.iload_n 2, 1) := by decide +kernel
theorem dX1_write_34 : decode cX1_write 34 = .ok (.iload_n 3, 1) := by decide +kernel
theorem dX1_write_35 : decode cX1_write 35 = .ok (.invokevirtual 118, 3) := by decide +kernel
theorem dX1_write_38 : decode cX1_write 38 = .ok (.aload_n 0, 1) := by decide +kernel
theorem dX1_write_39 : decode cX1_write 39 = .ok (.iload_n 1, 1) := by decide +kernel
theorem dX1_write_40 : decode cX1_write 40 = .ok (.invokevirtual 76, 3) := by decide +kernel
theorem dX1_write_43 : decode cX1_write 43 = .ok (.ireturn, 1) := by decide +kernel
end
section
set_option maxRecDepth 100000
abbrev cX1_writeBlock : ByteArray := prog_1_method_23_code
def yX1_writeBlock : MethodName := ⟨RX1, "writeBlock", "(III)V"⟩
theorem dX1_writeBlock_0 : decode cX1_writeBlock 0 = .ok (.aload_n 0, 1) := by decide +kernel
theorem dX1_writeBlock_1 : decode cX1_writeBlock 1 = .ok (.iload_n 1, 1) := by decide +kernel
theorem dX1_writeBlock_2 : decode cX1_writeBlock 2 = .ok (.iload_n 2, 1) := by decide +kernel
theorem dX1_writeBlock_3 : decode cX1_writeBlock 3 = .ok (.iconst 2, 1) := by decide +kernel
theorem dX1_writeBlock_4 : decode cX1_writeBlock 4 = .ok (.invokevirtual 102, 3) := by decide +kernel
theorem dX1_writeBlock_7 : decode cX1_writeBlock 7 = .ok (.aload_n 0, 1) := by decide +kernel
theorem dX1_writeBlock_8 : decode cX1_writeBlock 8 = .ok (.iload_n 1, 1) := by decide +kernel
theorem dX1_writeBlock_9 : decode cX1_writeBlock 9 = .ok (.iload_n 2, 1) := by decide +kernel
theorem dX1_writeBlock_10 : decode cX1_writeBlock 10 = .ok (.invokevirtual 105, 3) := by decide +kernel
theorem dX1_writeBlock_13 : decode cX1_writeBlock 13 = .ok (.istore 4, 2) := by decide +kernel
theorem dX1_writeBlock_15 : decode cX1_writeBlock 15 = .ok (.aload_n 0, 1) := by decide +kernel
theorem dX1_writeBlock_16 : decode cX1_writeBlock 16 = .ok (.getfield 38, 3) := by decide +kernel
theorem dX1_writeBlock_19 : decode cX1_writeBlock 19 = .ok (.iload 4, 2) := by decide +kernel
theorem dX1_writeBlock_21 : decode cX1_writeBlock 21 = .ok (.iload_n 3, 1) := by decide +kernel
theorem dX1_writeBlock_22 : decode cX1_writeBlock 22 = .ok (.iastore, 1) := by decide +kernel
theorem dX1_writeBlock_23 : decode cX1_writeBlock 23 = .ok (.aload_n 0, 1) := by decide +kernel
theorem dX1_writeBlock_24 : decode cX1_writeBlock 24 = .ok (.getfield 41, 3) := by decide +kernel
theorem dX1_writeBlock_27 : decode cX1_writeBlock 27 = .ok (.iload 4, 2) := by decide +kernel
theorem dX1_writeBlock_29 : decode cX1_writeBlock 29 = .ok (.iconst 1, 1) := by decide +kernel
theorem dX1_writeBlock_30 : decode cX1_writeBlock 30 = .ok (.bastore, 1) := by decide +kernel
theorem dX1_writeBlock_31 : decode cX1_writeBlock 31 = .ok (.return_, 1) := by decide +kernel
abbrev cX1_swap : ByteArray := prog_1_method_26_code
def yX1_swap : MethodName := ⟨RX1, "swap", "(III)I"⟩
theorem dX1_swap_0 : decode cX1_swap 0 = .ok (.iload_n 1, 1) := by decide +kernel
theorem dX1_swap_1 : decode cX1_swap 1 = .ok (.invokestatic 108, 3) := by decide +kernel
theorem dX1_swap_4 : decode cX1_swap 4 = .ok (.ifCond .eq 5, 3) := by decide +kernel
theorem dX1_swap_7 : decode cX1_swap 7 = .ok (.iconst (-1), 1) := by decide +kernel
theorem dX1_swap_8 : decode cX1_swap 8 = .ok (.ireturn, 1) := by decide +kernel
theorem dX1_swap_9 : decode cX1_swap 9 = .ok (.iload_n 2, 1) := by decide +kernel
theorem dX1_swap_10 : decode cX1_swap 10 = .ok (.invokestatic 112, 3) := by decide +kernel
theorem dX1_swap_13 : decode cX1_swap 13 = .ok (.ifCond .ne 10, 3) := by decide +kernel
theorem dX1_swap_16 : decode cX1_swap 16 = .ok (.iload_n 3, 1) := by decide +kernel
theorem dX1_swap_17 : decode cX1_swap 17 = .ok (.invokestatic 112, 3) := by decide +kernel
theorem dX1_swap_20 : decode cX1_swap 20 = .ok (.ifCond .eq 6, 3) := by decide +kernel
theorem dX1_swap_23 : decode cX1_swap 23 = .ok (.bipush (-2), 2) := by decide +kernel
theorem dX1_swap_25 : decode cX1_swap 25 = .ok (.ireturn, 1) := by decide +kernel
theorem dX1_swap_26 : decode cX1_swap 26 = .ok (.aload_n 0, 1) := by decide +kernel
theorem dX1_swap_27 : decode cX1_swap 27 = .ok (.getfield 7, 3) := by decide +kernel
theorem dX1_swap_30 : decode cX1_swap 30 = .ok (.iload_n 1, 1) := by decide +kernel
theorem dX1_swap_31 : decode cX1_swap 31 = .ok (.baload, 1) := by decide +kernel
theorem dX1_swap_32 : decode cX1_swap 32 = .ok (.ifCond .ne 6, 3) := by decide +kernel
theorem dX1_swap_35 : decode cX1_swap 35 = .ok (.bipush (-3), 2) := by decide +kernel
theorem dX1_swap_37 : decode cX1_swap 37 = .ok (.ireturn, 1) := by decide +kernel
theorem dX1_swap_38 : decode cX1_swap 38 = .ok (.aload_n 0, 1) := by decide +kernel
theorem dX1_swap_39 : decode cX1_swap 39 = .ok (.iload_n 1, 1) := by decide +kernel
theorem dX1_swap_40 : decode cX1_swap 40 = .ok (.iload_n 2, 1) := by decide +kernel
theorem dX1_swap_41 : decode cX1_swap 41 = .ok (.invokevirtual 115, 3) := by decide +kernel
theorem dX1_swap_44 : decode cX1_swap 44 = .ok (.istore 4, 2) := by decide +kernel
theorem dX1_swap_46 : decode cX1_swap 46 = .ok (.aload_n 0, 1) := by decide +kernel
theorem dX1_swap_47 : decode cX1_swap 47 = .ok (.iload_n 1, 1) := by decide +kernel
theorem dX1_swap_48 : decode cX1_swap 48 = .ok (.iload_n 3, 1) := by decide +kernel
theorem dX1_swap_49 : decode cX1_swap 49 = .ok (.invokevirtual 115, 3) := by decide +kernel
theorem dX1_swap_52 : decode cX1_swap 52 = .ok (.istore 5, 2) := by decide +kernel
theorem dX1_swap_54 : decode cX1_swap 54 = .ok (.aload_n 0, 1) := by decide +kernel
theorem dX1_swap_55 : decode cX1_swap 55 = .ok (.iload_n 1, 1) := by decide +kernel
theorem dX1_swap_56 : decode cX1_swap 56 = .ok (.iload_n 2, 1) := by decide +kernel
theorem dX1_swap_57 : decode cX1_swap 57 = .ok (.iload 5, 2) := by decide +kernel
theorem dX1_swap_59 : decode cX1_swap 59 = .ok (.invokevirtual 118, 3) := by decide +kernel
theorem dX1_swap_62 : decode cX1_swap 62 = .ok (.aload_n 0, 1) := by decide +kernel
theorem dX1_swap_63 : decode cX1_swap 63 = .ok (.iload_n 1, 1) := by decide +kernel
theorem dX1_swap_64 : decode cX1_swap 64 = .ok (.iload_n 3, 1) := by decide +kernel
theorem dX1_swap_65 : decode cX1_swap 65 = .ok (.iload 4, 2) := by decide +kernel
theorem dX1_swap_67 : decode cX1_swap 67 = .ok (.invokevirtual 118, 3) := by decide +kernel
theorem dX1_swap_70 : decode cX1_swap 70 = .ok (.aload_n 0, 1) := by decide +kernel
theorem dX1_swap_71 : decode cX1_swap 71 = .ok (.iload_n 1, 1) := by decide +kernel
theorem dX1_swap_72 : decode cX1_swap 72 = .ok (.invokevirtual 76, 3) := by decide +kernel
theorem dX1_swap_75 : decode cX1_swap 75 = .ok (.ireturn, 1) := by decide +kernel
abbrev cX1_sync : ByteArray := prog_1_method_27_code
def yX1_sync : MethodName := ⟨RX1, "sync", "(I)I"⟩
theorem dX1_sync_0 : decode cX1_sync 0 = .ok (.iload_n 1, 1) := by decide +kernel
theorem dX1_sync_1 : decode cX1_sync 1 = .ok (.invokestatic 108, 3) := by decide +kernel
theorem dX1_sync_4 : decode cX1_sync 4 = .ok (.ifCond .eq 5, 3) := by decide +kernel
theorem dX1_sync_7 : decode cX1_sync 7 = .ok (.iconst (-1), 1) := by decide +kernel
theorem dX1_sync_8 : decode cX1_sync 8 = .ok (.ireturn, 1) := by decide +kernel
theorem dX1_sync_9 : decode cX1_sync 9 = .ok (.aload_n 0, 1) := by decide +kernel
theorem dX1_sync_10 : decode cX1_sync 10 = .ok (.getfield 7, 3) := by decide +kernel
theorem dX1_sync_13 : decode cX1_sync 13 = .ok (.iload_n 1, 1) := by decide +kernel
theorem dX1_sync_14 : decode cX1_sync 14 = .ok (.baload, 1) := by decide +kernel
theorem dX1_sync_15 : decode cX1_sync 15 = .ok (.ifCond .ne 6, 3) := by decide +kernel
theorem dX1_sync_18 : decode cX1_sync 18 = .ok (.bipush (-3), 2) := by decide +kernel
theorem dX1_sync_20 : decode cX1_sync 20 = .ok (.ireturn, 1) := by decide +kernel
theorem dX1_sync_21 : decode cX1_sync 21 = .ok (.aload_n 0, 1) := by decide +kernel
theorem dX1_sync_22 : decode cX1_sync 22 = .ok (.iload_n 1, 1) := by decide +kernel
theorem dX1_sync_23 : decode cX1_sync 23 = .ok (.invokevirtual 95, 3) := by decide +kernel
theorem dX1_sync_26 : decode cX1_sync 26 = .ok (.ireturn, 1) := by decide +kernel
abbrev cX1_crash : ByteArray := prog_1_method_29_code
def yX1_crash : MethodName := ⟨RX1, "crash", "(I)I"⟩
theorem dX1_crash_0 : decode cX1_crash 0 = .ok (.iload_n 1, 1) := by decide +kernel
theorem dX1_crash_1 : decode cX1_crash 1 = .ok (.invokestatic 108, 3) := by decide +kernel
theorem dX1_crash_4 : decode cX1_crash 4 = .ok (.ifCond .eq 5, 3) := by decide +kernel
theorem dX1_crash_7 : decode cX1_crash 7 = .ok (.iconst (-1), 1) := by decide +kernel
theorem dX1_crash_8 : decode cX1_crash 8 = .ok (.ireturn, 1) := by decide +kernel
theorem dX1_crash_9 : decode cX1_crash 9 = .ok (.aload_n 0, 1) := by decide +kernel
theorem dX1_crash_10 : decode cX1_crash 10 = .ok (.getfield 7, 3) := by decide +kernel
theorem dX1_crash_13 : decode cX1_crash 13 = .ok (.iload_n 1, 1) := by decide +kernel
theorem dX1_crash_14 : decode cX1_crash 14 = .ok (.baload, 1) := by decide +kernel
theorem dX1_crash_15 : decode cX1_crash 15 = .ok (.ifCond .ne 6, 3) := by decide +kernel
theorem dX1_crash_18 : decode cX1_crash 18 = .ok (.bipush (-3), 2) := by decide +kernel
theorem dX1_crash_20 : decode cX1_crash 20 = .ok (.ireturn, 1) := by decide +kernel
theorem dX1_crash_21 : decode cX1_crash 21 = .ok (.aload_n 0, 1) := by decide +kernel
theorem dX1_crash_22 : decode cX1_crash 22 = .ok (.iload_n 1, 1) := by decide +kernel
theorem dX1_crash_23 : decode cX1_crash 23 = .ok (.invokevirtual 76, 3) := by decide +kernel
theorem dX1_crash_26 : decode cX1_crash 26 = .ok (.istore_n 2, 1) := by decide +kernel
theorem dX1_crash_27 : decode cX1_crash 27 = .ok (.aload_n 0, 1) := by decide +kernel
theorem dX1_crash_28 : decode cX1_crash 28 = .ok (.iload_n 1, 1) := by decide +kernel
theorem dX1_crash_29 : decode cX1_crash 29 = .ok (.invokevirtual 124, 3) := by decide +kernel
theorem dX1_crash_32 : decode cX1_crash 32 = .ok (.iload_n 2, 1) := by decide +kernel
theorem dX1_crash_33 : decode cX1_crash 33 = .ok (.ireturn, 1) := by decide +kernel
abbrev cX1_die : ByteArray := prog_1_method_28_code
def yX1_die : MethodName := ⟨RX1, "die", "(I)V"⟩
theorem dX1_die_0 : decode cX1_die 0 = .ok (.aload_n 0, 1) := by decide +kernel
theorem dX1_die_1 : decode cX1_die 1 = .ok (.getfield 7, 3) := by decide +kernel
theorem dX1_die_4 : decode cX1_die 4 = .ok (.iload_n 1, 1) := by decide +kernel
theorem dX1_die_5 : decode cX1_die 5 = .ok (.iconst 0, 1) := by decide +kernel
theorem dX1_die_6 : decode cX1_die 6 = .ok (.bastore, 1) := by decide +kernel
theorem dX1_die_7 : decode cX1_die 7 = .ok (.iload_n 1, 1) := by decide +kernel
theorem dX1_die_8 : decode cX1_die 8 = .ok (.bipush 8, 2) := by decide +kernel
theorem dX1_die_10 : decode cX1_die 10 = .ok (.imul, 1) := by decide +kernel
theorem dX1_die_11 : decode cX1_die 11 = .ok (.istore_n 2, 1) := by decide +kernel
theorem dX1_die_12 : decode cX1_die 12 = .ok (.iload_n 2, 1) := by decide +kernel
theorem dX1_die_13 : decode cX1_die 13 = .ok (.iload_n 1, 1) := by decide +kernel
theorem dX1_die_14 : decode cX1_die 14 = .ok (.bipush 8, 2) := by decide +kernel
theorem dX1_die_16 : decode cX1_die 16 = .ok (.imul, 1) := by decide +kernel
theorem dX1_die_17 : decode cX1_die 17 = .ok (.bipush 8, 2) := by decide +kernel
theorem dX1_die_19 : decode cX1_die 19 = .ok (.iadd, 1) := by decide +kernel
theorem dX1_die_20 : decode cX1_die 20 = .ok (.if_icmp .ge 14, 3) := by decide +kernel
theorem dX1_die_23 : decode cX1_die 23 = .ok (.aload_n 0, 1) := by decide +kernel
theorem dX1_die_24 : decode cX1_die 24 = .ok (.iload_n 2, 1) := by decide +kernel
theorem dX1_die_25 : decode cX1_die 25 = .ok (.invokevirtual 70, 3) := by decide +kernel
theorem dX1_die_28 : decode cX1_die 28 = .ok (.iinc 2 1, 3) := by decide +kernel
theorem dX1_die_31 : decode cX1_die 31 = .ok (.goto (-19), 3) := by decide +kernel
theorem dX1_die_34 : decode cX1_die 34 = .ok (.aload_n 0, 1) := by decide +kernel
theorem dX1_die_35 : decode cX1_die 35 = .ok (.iload_n 1, 1) := by decide +kernel
theorem dX1_die_36 : decode cX1_die 36 = .ok (.invokevirtual 121, 3) := by decide +kernel
theorem dX1_die_39 : decode cX1_die 39 = .ok (.istore_n 2, 1) := by decide +kernel
theorem dX1_die_40 : decode cX1_die 40 = .ok (.iload_n 2, 1) := by decide +kernel
theorem dX1_die_41 : decode cX1_die 41 = .ok (.ifCond .eq 11, 3) := by decide +kernel
theorem dX1_die_44 : decode cX1_die 44 = .ok (.aload_n 0, 1) := by decide +kernel
theorem dX1_die_45 : decode cX1_die 45 = .ok (.iload_n 1, 1) := by decide +kernel
theorem dX1_die_46 : decode cX1_die 46 = .ok (.invokevirtual 85, 3) := by decide +kernel
theorem dX1_die_49 : decode cX1_die 49 = .ok (.goto 8, 3) := by decide +kernel
theorem dX1_die_52 : decode cX1_die 52 = .ok (.aload_n 0, 1) := by decide +kernel
theorem dX1_die_53 : decode cX1_die 53 = .ok (.iload_n 1, 1) := by decide +kernel
theorem dX1_die_54 : decode cX1_die 54 = .ok (.invokevirtual 59, 3) := by decide +kernel
theorem dX1_die_57 : decode cX1_die 57 = .ok (.iconst 0, 1) := by decide +kernel
theorem dX1_die_58 : decode cX1_die 58 = .ok (.istore_n 3, 1) := by decide +kernel
theorem dX1_die_59 : decode cX1_die 59 = .ok (.iload_n 3, 1) := by decide +kernel
theorem dX1_die_60 : decode cX1_die 60 = .ok (.bipush 16, 2) := by decide +kernel
theorem dX1_die_62 : decode cX1_die 62 = .ok (.if_icmp .ge 21, 3) := by decide +kernel
theorem dX1_die_65 : decode cX1_die 65 = .ok (.aload_n 0, 1) := by decide +kernel
theorem dX1_die_66 : decode cX1_die 66 = .ok (.getfield 32, 3) := by decide +kernel
theorem dX1_die_69 : decode cX1_die 69 = .ok (.iload_n 1, 1) := by decide +kernel
theorem dX1_die_70 : decode cX1_die 70 = .ok (.bipush 16, 2) := by decide +kernel
theorem dX1_die_72 : decode cX1_die 72 = .ok (.imul, 1) := by decide +kernel
theorem dX1_die_73 : decode cX1_die 73 = .ok (.iload_n 3, 1) := by decide +kernel
theorem dX1_die_74 : decode cX1_die 74 = .ok (.iadd, 1) := by decide +kernel
theorem dX1_die_75 : decode cX1_die 75 = .ok (.iconst 0, 1) := by decide +kernel
theorem dX1_die_76 : decode cX1_die 76 = .ok (.iastore, 1) := by decide +kernel
theorem dX1_die_77 : decode cX1_die 77 = .ok (.iinc 3 1, 3) := by decide +kernel
theorem dX1_die_80 : decode cX1_die 80 = .ok (.goto (-21), 3) := by decide +kernel
theorem dX1_die_83 : decode cX1_die 83 = .ok (.return_, 1) := by decide +kernel
abbrev cX1_whole : ByteArray := prog_1_method_8_code
def yX1_whole : MethodName := ⟨RX1, "whole", "(I)Z"⟩
theorem dX1_whole_0 : decode cX1_whole 0 = .ok (.aload_n 0, 1) := by decide +kernel
theorem dX1_whole_1 : decode cX1_whole 1 = .ok (.getfield 29, 3) := by decide +kernel
theorem dX1_whole_4 : decode cX1_whole 4 = .ok (.iload_n 1, 1) := by decide +kernel
theorem dX1_whole_5 : decode cX1_whole 5 = .ok (.baload, 1) := by decide +kernel
theorem dX1_whole_6 : decode cX1_whole 6 = .ok (.ifCond .ne 5, 3) := by decide +kernel
theorem dX1_whole_9 : decode cX1_whole 9 = .ok (.iconst 0, 1) := by decide +kernel
theorem dX1_whole_10 : decode cX1_whole 10 = .ok (.ireturn, 1) := by decide +kernel
theorem dX1_whole_11 : decode cX1_whole 11 = .ok (.aload_n 0, 1) := by decide +kernel
theorem dX1_whole_12 : decode cX1_whole 12 = .ok (.iload_n 1, 1) := by decide +kernel
theorem dX1_whole_13 : decode cX1_whole 13 = .ok (.invokevirtual 55, 3) := by decide +kernel
theorem dX1_whole_16 : decode cX1_whole 16 = .ok (.istore_n 2, 1) := by decide +kernel
theorem dX1_whole_17 : decode cX1_whole 17 = .ok (.iload_n 2, 1) := by decide +kernel
theorem dX1_whole_18 : decode cX1_whole 18 = .ok (.aload_n 0, 1) := by decide +kernel
theorem dX1_whole_19 : decode cX1_whole 19 = .ok (.getfield 26, 3) := by decide +kernel
theorem dX1_whole_22 : decode cX1_whole 22 = .ok (.iload_n 1, 1) := by decide +kernel
theorem dX1_whole_23 : decode cX1_whole 23 = .ok (.iaload, 1) := by decide +kernel
theorem dX1_whole_24 : decode cX1_whole 24 = .ok (.if_icmp .ne 7, 3) := by decide +kernel
theorem dX1_whole_27 : decode cX1_whole 27 = .ok (.iconst 1, 1) := by decide +kernel
theorem dX1_whole_28 : decode cX1_whole 28 = .ok (.goto 4, 3) := by decide +kernel
theorem dX1_whole_31 : decode cX1_whole 31 = .ok (.iconst 0, 1) := by decide +kernel
theorem dX1_whole_32 : decode cX1_whole 32 = .ok (.ireturn, 1) := by decide +kernel
abbrev cX1_crashInSync : ByteArray := prog_1_method_30_code
def yX1_crashInSync : MethodName := ⟨RX1, "crashInSync", "(IZ)I"⟩
theorem dX1_crashInSync_0 : decode cX1_crashInSync 0 = .ok (.iload_n 1, 1) := by decide +kernel
theorem dX1_crashInSync_1 : decode cX1_crashInSync 1 = .ok (.invokestatic 108, 3) := by decide +kernel
theorem dX1_crashInSync_4 : decode cX1_crashInSync 4 = .ok (.ifCond .eq 5, 3) := by decide +kernel
theorem dX1_crashInSync_7 : decode cX1_crashInSync 7 = .ok (.iconst (-1), 1) := by decide +kernel
theorem dX1_crashInSync_8 : decode cX1_crashInSync 8 = .ok (.ireturn, 1) := by decide +kernel
theorem dX1_crashInSync_9 : decode cX1_crashInSync 9 = .ok (.aload_n 0, 1) := by decide +kernel
theorem dX1_crashInSync_10 : decode cX1_crashInSync 10 = .ok (.getfield 7, 3) := by decide +kernel
theorem dX1_crashInSync_13 : decode cX1_crashInSync 13 = .ok (.iload_n 1, 1) := by decide +kernel
theorem dX1_crashInSync_14 : decode cX1_crashInSync 14 = .ok (.baload, 1) := by decide +kernel
theorem dX1_crashInSync_15 : decode cX1_crashInSync 15 = .ok (.ifCond .ne 6, 3) := by decide +kernel
theorem dX1_crashInSync_18 : decode cX1_crashInSync 18 = .ok (.bipush (-3), 2) := by decide +kernel
theorem dX1_crashInSync_20 : decode cX1_crashInSync 20 = .ok (.ireturn, 1) := by decide +kernel
theorem dX1_crashInSync_21 : decode cX1_crashInSync 21 = .ok (.aload_n 0, 1) := by decide +kernel
theorem dX1_crashInSync_22 : decode cX1_crashInSync 22 = .ok (.iload_n 1, 1) := by decide +kernel
theorem dX1_crashInSync_23 : decode cX1_crashInSync 23 = .ok (.invokevirtual 76, 3) := by decide +kernel
theorem dX1_crashInSync_26 : decode cX1_crashInSync 26 = .ok (.istore_n 3, 1) := by decide +kernel
theorem dX1_crashInSync_27 : decode cX1_crashInSync 27 = .ok (.aload_n 0, 1) := by decide +kernel
theorem dX1_crashInSync_28 : decode cX1_crashInSync 28 = .ok (.iload_n 1, 1) := by decide +kernel
theorem dX1_crashInSync_29 : decode cX1_crashInSync 29 = .ok (.invokevirtual 79, 3) := by decide +kernel
theorem dX1_crashInSync_32 : decode cX1_crashInSync 32 = .ok (.iload_n 2, 1) := by decide +kernel
theorem dX1_crashInSync_33 : decode cX1_crashInSync 33 = .ok (.ifCond .eq 8, 3) := by decide +kernel
theorem dX1_crashInSync_36 : decode cX1_crashInSync 36 = .ok (.aload_n 0, 1) := by decide +kernel
theorem dX1_crashInSync_37 : decode cX1_crashInSync 37 = .ok (.iload_n 1, 1) := by decide +kernel
theorem dX1_crashInSync_38 : decode cX1_crashInSync 38 = .ok (.invokevirtual 82, 3) := by decide +kernel
theorem dX1_crashInSync_41 : decode cX1_crashInSync 41 = .ok (.aload_n 0, 1) := by decide +kernel
theorem dX1_crashInSync_42 : decode cX1_crashInSync 42 = .ok (.iload_n 1, 1) := by decide +kernel
theorem dX1_crashInSync_43 : decode cX1_crashInSync 43 = .ok (.invokevirtual 124, 3) := by decide +kernel
theorem dX1_crashInSync_46 : decode cX1_crashInSync 46 = .ok (.iload_n 3, 1) := by decide +kernel
theorem dX1_crashInSync_47 : decode cX1_crashInSync 47 = .ok (.ireturn, 1) := by decide +kernel
abbrev cX1_restart : ByteArray := prog_1_method_31_code
def yX1_restart : MethodName := ⟨RX1, "restart", "(I)I"⟩
theorem dX1_restart_0 : decode cX1_restart 0 = .ok (.iload_n 1, 1) := by decide +kernel
theorem dX1_restart_1 : decode cX1_restart 1 = .ok (.invokestatic 108, 3) := by decide +kernel
theorem dX1_restart_4 : decode cX1_restart 4 = .ok (.ifCond .eq 5, 3) := by decide +kernel
theorem dX1_restart_7 : decode cX1_restart 7 = .ok (.iconst (-1), 1) := by decide +kernel
theorem dX1_restart_8 : decode cX1_restart 8 = .ok (.ireturn, 1) := by decide +kernel
theorem dX1_restart_9 : decode cX1_restart 9 = .ok (.aload_n 0, 1) := by decide +kernel
theorem dX1_restart_10 : decode cX1_restart 10 = .ok (.getfield 7, 3) := by decide +kernel
theorem dX1_restart_13 : decode cX1_restart 13 = .ok (.iload_n 1, 1) := by decide +kernel
theorem dX1_restart_14 : decode cX1_restart 14 = .ok (.baload, 1) := by decide +kernel
theorem dX1_restart_15 : decode cX1_restart 15 = .ok (.ifCond .eq 7, 3) := by decide +kernel
theorem dX1_restart_18 : decode cX1_restart 18 = .ok (.iconst 0, 1) := by decide +kernel
theorem dX1_restart_19 : decode cX1_restart 19 = .ok (.goto 4, 3) := by decide +kernel
theorem dX1_restart_22 : decode cX1_restart 22 = .ok (.iconst 1, 1) := by decide +kernel
theorem dX1_restart_23 : decode cX1_restart 23 = .ok (.istore_n 2, 1) := by decide +kernel
theorem dX1_restart_24 : decode cX1_restart 24 = .ok (.aload_n 0, 1) := by decide +kernel
theorem dX1_restart_25 : decode cX1_restart 25 = .ok (.getfield 7, 3) := by decide +kernel
theorem dX1_restart_28 : decode cX1_restart 28 = .ok (.iload_n 1, 1) := by decide +kernel
theorem dX1_restart_29 : decode cX1_restart 29 = .ok (.iconst 1, 1) := by decide +kernel
theorem dX1_restart_30 : decode cX1_restart 30 = .ok (.bastore, 1) := by decide +kernel
theorem dX1_restart_31 : decode cX1_restart 31 = .ok (.iload_n 2, 1) := by decide +kernel
theorem dX1_restart_32 : decode cX1_restart 32 = .ok (.ireturn, 1) := by decide +kernel
abbrev cX1_powerCut : ByteArray := prog_1_method_32_code
def yX1_powerCut : MethodName := ⟨RX1, "powerCut", "()I"⟩
theorem dX1_powerCut_0 : decode cX1_powerCut 0 = .ok (.iconst 0, 1) := by decide +kernel
theorem dX1_powerCut_1 : decode cX1_powerCut 1 = .ok (.istore_n 1, 1) := by decide +kernel
theorem dX1_powerCut_2 : decode cX1_powerCut 2 = .ok (.iconst 0, 1) := by decide +kernel
theorem dX1_powerCut_3 : decode cX1_powerCut 3 = .ok (.istore_n 2, 1) := by decide +kernel
theorem dX1_powerCut_4 : decode cX1_powerCut 4 = .ok (.iload_n 2, 1) := by decide +kernel
theorem dX1_powerCut_5 : decode cX1_powerCut 5 = .ok (.iconst 3, 1) := by decide +kernel
theorem dX1_powerCut_6 : decode cX1_powerCut 6 = .ok (.if_icmp .ge 22, 3) := by decide +kernel
theorem dX1_powerCut_9 : decode cX1_powerCut 9 = .ok (.iload_n 1, 1) := by decide +kernel
theorem dX1_powerCut_10 : decode cX1_powerCut 10 = .ok (.aload_n 0, 1) := by decide +kernel
theorem dX1_powerCut_11 : decode cX1_powerCut 11 = .ok (.iload_n 2, 1) := by decide +kernel
theorem dX1_powerCut_12 : decode cX1_powerCut 12 = .ok (.invokevirtual 76, 3) := by decide +kernel
theorem dX1_powerCut_15 : decode cX1_powerCut 15 = .ok (.iadd, 1) := by decide +kernel
theorem dX1_powerCut_16 : decode cX1_powerCut 16 = .ok (.istore_n 1, 1) := by decide +kernel
theorem dX1_powerCut_17 : decode cX1_powerCut 17 = .ok (.aload_n 0, 1) := by decide +kernel
theorem dX1_powerCut_18 : decode cX1_powerCut 18 = .ok (.iload_n 2, 1) := by decide +kernel
theorem dX1_powerCut_19 : decode cX1_powerCut 19 = .ok (.invokevirtual 124, 3) := by decide +kernel
theorem dX1_powerCut_22 : decode cX1_powerCut 22 = .ok (.iinc 2 1, 3) := by decide +kernel
theorem dX1_powerCut_25 : decode cX1_powerCut 25 = .ok (.goto (-21), 3) := by decide +kernel
theorem dX1_powerCut_28 : decode cX1_powerCut 28 = .ok (.iconst 0, 1) := by decide +kernel
theorem dX1_powerCut_29 : decode cX1_powerCut 29 = .ok (.istore_n 2, 1) := by decide +kernel
theorem dX1_powerCut_30 : decode cX1_powerCut 30 = .ok (.iload_n 2, 1) := by decide +kernel
theorem dX1_powerCut_31 : decode cX1_powerCut 31 = .ok (.iconst 3, 1) := by decide +kernel
theorem dX1_powerCut_32 : decode cX1_powerCut 32 = .ok (.if_icmp .ge 16, 3) := by decide +kernel
theorem dX1_powerCut_35 : decode cX1_powerCut 35 = .ok (.aload_n 0, 1) := by decide +kernel
theorem dX1_powerCut_36 : decode cX1_powerCut 36 = .ok (.getfield 7, 3) := by decide +kernel
theorem dX1_powerCut_39 : decode cX1_powerCut 39 = .ok (.iload_n 2, 1) := by decide +kernel
theorem dX1_powerCut_40 : decode cX1_powerCut 40 = .ok (.iconst 1, 1) := by decide +kernel
theorem dX1_powerCut_41 : decode cX1_powerCut 41 = .ok (.bastore, 1) := by decide +kernel
theorem dX1_powerCut_42 : decode cX1_powerCut 42 = .ok (.iinc 2 1, 3) := by decide +kernel
theorem dX1_powerCut_45 : decode cX1_powerCut 45 = .ok (.goto (-15), 3) := by decide +kernel
theorem dX1_powerCut_48 : decode cX1_powerCut 48 = .ok (.iload_n 1, 1) := by decide +kernel
theorem dX1_powerCut_49 : decode cX1_powerCut 49 = .ok (.ireturn, 1) := by decide +kernel
abbrev cX1_content : ByteArray := prog_1_method_34_code
def yX1_content : MethodName := ⟨RX1, "content", "(I)I"⟩
theorem dX1_content_0 : decode cX1_content 0 = .ok (.iload_n 1, 1) := by decide +kernel
theorem dX1_content_1 : decode cX1_content 1 = .ok (.invokestatic 112, 3) := by decide +kernel
theorem dX1_content_4 : decode cX1_content 4 = .ok (.ifCond .eq 6, 3) := by decide +kernel
theorem dX1_content_7 : decode cX1_content 7 = .ok (.bipush (-2), 2) := by decide +kernel
theorem dX1_content_9 : decode cX1_content 9 = .ok (.ireturn, 1) := by decide +kernel
theorem dX1_content_10 : decode cX1_content 10 = .ok (.aload_n 0, 1) := by decide +kernel
theorem dX1_content_11 : decode cX1_content 11 = .ok (.iload_n 1, 1) := by decide +kernel
theorem dX1_content_12 : decode cX1_content 12 = .ok (.invokevirtual 127, 3) := by decide +kernel
theorem dX1_content_15 : decode cX1_content 15 = .ok (.istore_n 2, 1) := by decide +kernel
theorem dX1_content_16 : decode cX1_content 16 = .ok (.iload_n 2, 1) := by decide +kernel
theorem dX1_content_17 : decode cX1_content 17 = .ok (.ifCond .ge 10, 3) := by decide +kernel
theorem dX1_content_20 : decode cX1_content 20 = .ok (.aload_n 0, 1) := by decide +kernel
theorem dX1_content_21 : decode cX1_content 21 = .ok (.getfield 13, 3) := by decide +kernel
theorem dX1_content_24 : decode cX1_content 24 = .ok (.iload_n 1, 1) := by decide +kernel
theorem dX1_content_25 : decode cX1_content 25 = .ok (.iaload, 1) := by decide +kernel
theorem dX1_content_26 : decode cX1_content 26 = .ok (.ireturn, 1) := by decide +kernel
theorem dX1_content_27 : decode cX1_content 27 = .ok (.aload_n 0, 1) := by decide +kernel
theorem dX1_content_28 : decode cX1_content 28 = .ok (.iload_n 2, 1) := by decide +kernel
theorem dX1_content_29 : decode cX1_content 29 = .ok (.iload_n 1, 1) := by decide +kernel
theorem dX1_content_30 : decode cX1_content 30 = .ok (.invokevirtual 63, 3) := by decide +kernel
theorem dX1_content_33 : decode cX1_content 33 = .ok (.istore_n 3, 1) := by decide +kernel
theorem dX1_content_34 : decode cX1_content 34 = .ok (.iload_n 3, 1) := by decide +kernel
theorem dX1_content_35 : decode cX1_content 35 = .ok (.ifCond .lt 10, 3) := by decide +kernel
theorem dX1_content_38 : decode cX1_content 38 = .ok (.aload_n 0, 1) := by decide +kernel
theorem dX1_content_39 : decode cX1_content 39 = .ok (.getfield 38, 3) := by decide +kernel
theorem dX1_content_42 : decode cX1_content 42 = .ok (.iload_n 3, 1) := by decide +kernel
theorem dX1_content_43 : decode cX1_content 43 = .ok (.iaload, 1) := by decide +kernel
theorem dX1_content_44 : decode cX1_content 44 = .ok (.ireturn, 1) := by decide +kernel
theorem dX1_content_45 : decode cX1_content 45 = .ok (.aload_n 0, 1) := by decide +kernel
theorem dX1_content_46 : decode cX1_content 46 = .ok (.iload_n 2, 1) := by decide +kernel
theorem dX1_content_47 : decode cX1_content 47 = .ok (.iload_n 1, 1) := by decide +kernel
theorem dX1_content_48 : decode cX1_content 48 = .ok (.invokevirtual 51, 3) := by decide +kernel
theorem dX1_content_51 : decode cX1_content 51 = .ok (.istore 4, 2) := by decide +kernel
theorem dX1_content_53 : decode cX1_content 53 = .ok (.iload 4, 2) := by decide +kernel
theorem dX1_content_55 : decode cX1_content 55 = .ok (.ifCond .ge 12, 3) := by decide +kernel
theorem dX1_content_58 : decode cX1_content 58 = .ok (.aload_n 0, 1) := by decide +kernel
theorem dX1_content_59 : decode cX1_content 59 = .ok (.getfield 13, 3) := by decide +kernel
theorem dX1_content_62 : decode cX1_content 62 = .ok (.iload_n 1, 1) := by decide +kernel
theorem dX1_content_63 : decode cX1_content 63 = .ok (.iaload, 1) := by decide +kernel
theorem dX1_content_64 : decode cX1_content 64 = .ok (.goto 10, 3) := by decide +kernel
theorem dX1_content_67 : decode cX1_content 67 = .ok (.aload_n 0, 1) := by decide +kernel
theorem dX1_content_68 : decode cX1_content 68 = .ok (.getfield 23, 3) := by decide +kernel
theorem dX1_content_71 : decode cX1_content 71 = .ok (.iload 4, 2) := by decide +kernel
theorem dX1_content_73 : decode cX1_content 73 = .ok (.iaload, 1) := by decide +kernel
theorem dX1_content_74 : decode cX1_content 74 = .ok (.ireturn, 1) := by decide +kernel
abbrev cX1_ownerOf : ByteArray := prog_1_method_33_code
def yX1_ownerOf : MethodName := ⟨RX1, "ownerOf", "(I)I"⟩
theorem dX1_ownerOf_0 : decode cX1_ownerOf 0 = .ok (.iconst 0, 1) := by decide +kernel
theorem dX1_ownerOf_1 : decode cX1_ownerOf 1 = .ok (.istore_n 2, 1) := by decide +kernel
theorem dX1_ownerOf_2 : decode cX1_ownerOf 2 = .ok (.iload_n 2, 1) := by decide +kernel
theorem dX1_ownerOf_3 : decode cX1_ownerOf 3 = .ok (.iconst 3, 1) := by decide +kernel
theorem dX1_ownerOf_4 : decode cX1_ownerOf 4 = .ok (.if_icmp .ge 22, 3) := by decide +kernel
theorem dX1_ownerOf_7 : decode cX1_ownerOf 7 = .ok (.aload_n 0, 1) := by decide +kernel
theorem dX1_ownerOf_8 : decode cX1_ownerOf 8 = .ok (.iload_n 2, 1) := by decide +kernel
theorem dX1_ownerOf_9 : decode cX1_ownerOf 9 = .ok (.iload_n 1, 1) := by decide +kernel
theorem dX1_ownerOf_10 : decode cX1_ownerOf 10 = .ok (.invokevirtual 91, 3) := by decide +kernel
theorem dX1_ownerOf_13 : decode cX1_ownerOf 13 = .ok (.istore_n 3, 1) := by decide +kernel
theorem dX1_ownerOf_14 : decode cX1_ownerOf 14 = .ok (.iload_n 3, 1) := by decide +kernel
theorem dX1_ownerOf_15 : decode cX1_ownerOf 15 = .ok (.ifCond .eq 5, 3) := by decide +kernel
theorem dX1_ownerOf_18 : decode cX1_ownerOf 18 = .ok (.iload_n 2, 1) := by decide +kernel
theorem dX1_ownerOf_19 : decode cX1_ownerOf 19 = .ok (.ireturn, 1) := by decide +kernel
theorem dX1_ownerOf_20 : decode cX1_ownerOf 20 = .ok (.iinc 2 1, 3) := by decide +kernel
theorem dX1_ownerOf_23 : decode cX1_ownerOf 23 = .ok (.goto (-21), 3) := by decide +kernel
theorem dX1_ownerOf_26 : decode cX1_ownerOf 26 = .ok (.bipush (-4), 2) := by decide +kernel
theorem dX1_ownerOf_28 : decode cX1_ownerOf 28 = .ok (.ireturn, 1) := by decide +kernel
abbrev cX1_safe : ByteArray := prog_1_method_35_code
def yX1_safe : MethodName := ⟨RX1, "safe", "(I)I"⟩
theorem dX1_safe_0 : decode cX1_safe 0 = .ok (.iload_n 1, 1) := by decide +kernel
theorem dX1_safe_1 : decode cX1_safe 1 = .ok (.invokestatic 112, 3) := by decide +kernel
theorem dX1_safe_4 : decode cX1_safe 4 = .ok (.ifCond .eq 8, 3) := by decide +kernel
theorem dX1_safe_7 : decode cX1_safe 7 = .ok (.bipush (-2), 2) := by decide +kernel
theorem dX1_safe_9 : decode cX1_safe 9 = .ok (.goto 9, 3) := by decide +kernel
theorem dX1_safe_12 : decode cX1_safe 12 = .ok (.aload_n 0, 1) := by decide +kernel
theorem dX1_safe_13 : decode cX1_safe 13 = .ok (.getfield 13, 3) := by decide +kernel
theorem dX1_safe_16 : decode cX1_safe 16 = .ok (.iload_n 1, 1) := by decide +kernel
theorem dX1_safe_17 : decode cX1_safe 17 = .ok (.iaload, 1) := by decide +kernel
theorem dX1_safe_18 : decode cX1_safe 18 = .ok (.ireturn, 1) := by decide +kernel
abbrev cX1_owner : ByteArray := prog_1_method_36_code
def yX1_owner : MethodName := ⟨RX1, "owner", "(I)I"⟩
theorem dX1_owner_0 : decode cX1_owner 0 = .ok (.iload_n 1, 1) := by decide +kernel
theorem dX1_owner_1 : decode cX1_owner 1 = .ok (.invokestatic 112, 3) := by decide +kernel
theorem dX1_owner_4 : decode cX1_owner 4 = .ok (.ifCond .eq 8, 3) := by decide +kernel
theorem dX1_owner_7 : decode cX1_owner 7 = .ok (.bipush (-2), 2) := by decide +kernel
theorem dX1_owner_9 : decode cX1_owner 9 = .ok (.goto 8, 3) := by decide +kernel
theorem dX1_owner_12 : decode cX1_owner 12 = .ok (.aload_n 0, 1) := by decide +kernel
theorem dX1_owner_13 : decode cX1_owner 13 = .ok (.iload_n 1, 1) := by decide +kernel
theorem dX1_owner_14 : decode cX1_owner 14 = .ok (.invokevirtual 127, 3) := by decide +kernel
theorem dX1_owner_17 : decode cX1_owner 17 = .ok (.ireturn, 1) := by decide +kernel
abbrev cX1_unsafe : ByteArray := prog_1_method_37_code
def yX1_unsafe : MethodName := ⟨RX1, nmU, "(I)I"⟩
theorem dX1_unsafe_0 : decode cX1_unsafe 0 = .ok (.iload_n 1, 1) := by decide +kernel
theorem dX1_unsafe_1 : decode cX1_unsafe 1 = .ok (.invokestatic 108, 3) := by decide +kernel
theorem dX1_unsafe_4 : decode cX1_unsafe 4 = .ok (.ifCond .eq 7, 3) := by decide +kernel
theorem dX1_unsafe_7 : decode cX1_unsafe 7 = .ok (.iconst (-1), 1) := by decide +kernel
theorem dX1_unsafe_8 : decode cX1_unsafe 8 = .ok (.goto 8, 3) := by decide +kernel
theorem dX1_unsafe_11 : decode cX1_unsafe 11 = .ok (.aload_n 0, 1) := by decide +kernel
theorem dX1_unsafe_12 : decode cX1_unsafe 12 = .ok (.iload_n 1, 1) := by decide +kernel
theorem dX1_unsafe_13 : decode cX1_unsafe 13 = .ok (.invokevirtual 76, 3) := by decide +kernel
theorem dX1_unsafe_16 : decode cX1_unsafe 16 = .ok (.ireturn, 1) := by decide +kernel
abbrev cX1_up : ByteArray := prog_1_method_38_code
def yX1_up : MethodName := ⟨RX1, "up", "(I)Z"⟩
theorem dX1_up_0 : decode cX1_up 0 = .ok (.iload_n 1, 1) := by decide +kernel
theorem dX1_up_1 : decode cX1_up 1 = .ok (.invokestatic 108, 3) := by decide +kernel
theorem dX1_up_4 : decode cX1_up 4 = .ok (.ifCond .ne 16, 3) := by decide +kernel
theorem dX1_up_7 : decode cX1_up 7 = .ok (.aload_n 0, 1) := by decide +kernel
theorem dX1_up_8 : decode cX1_up 8 = .ok (.getfield 7, 3) := by decide +kernel
theorem dX1_up_11 : decode cX1_up 11 = .ok (.iload_n 1, 1) := by decide +kernel
theorem dX1_up_12 : decode cX1_up 12 = .ok (.baload, 1) := by decide +kernel
theorem dX1_up_13 : decode cX1_up 13 = .ok (.ifCond .eq 7, 3) := by decide +kernel
theorem dX1_up_16 : decode cX1_up 16 = .ok (.iconst 1, 1) := by decide +kernel
theorem dX1_up_17 : decode cX1_up 17 = .ok (.goto 4, 3) := by decide +kernel
theorem dX1_up_20 : decode cX1_up 20 = .ok (.iconst 0, 1) := by decide +kernel
theorem dX1_up_21 : decode cX1_up 21 = .ok (.ireturn, 1) := by decide +kernel

theorem q28 : (Jvm.Cond.initialized "SharedDiskFs") ∈ lw_all := lw_g (lw_at lw_m1 1 rfl) rfl
theorem q31 : (Jvm.Cond.instantiable "SharedDiskFs" (13 : Nat)) ∈ lw_all := lw_g (lw_at lw_m1 4 rfl) rfl
theorem q33 : (Jvm.Cond.instanceMethod ({ cls := "SharedDiskFs", name := "<init>", desc := "(I)V" } : Jvm.MethodName)) ∈ lw_all := lw_g (lw_at lw_m1 6 rfl) rfl
theorem q34 : (Jvm.Cond.code ({ cls := "SharedDiskFs", name := "<init>", desc := "(I)V" } : Jvm.MethodName) prog_1_method_1_code (4 : Nat) (Option.none : Option Jvm.ClassFile.FieldType)) ∈ lw_all := lw_g (lw_at lw_m1 7 rfl) rfl
theorem q35 : (Jvm.Cond.methodLink "SharedDiskFs" (1 : Nat) ({ cls := "java/lang/Object", name := "<init>", desc := "()V" } : Jvm.MethodName)) ∈ lw_all := lw_g (lw_at lw_m1 8 rfl) rfl
theorem q38 : (Jvm.Cond.fieldLink "SharedDiskFs" (47 : Nat) "SharedDiskFs" "room" "I") ∈ lw_all := lw_g (lw_at lw_m1 11 rfl) rfl
theorem q39 : (Jvm.Cond.fieldLink "SharedDiskFs" (7 : Nat) "SharedDiskFs" "running" "[Z") ∈ lw_all := lw_g (lw_at lw_m1 12 rfl) rfl
theorem q40 : (Jvm.Cond.fieldLink "SharedDiskFs" (13 : Nat) "SharedDiskFs" "home" "[I") ∈ lw_all := lw_g (lw_at lw_m1 13 rfl) rfl
theorem q41 : (Jvm.Cond.fieldLink "SharedDiskFs" (17 : Nat) "SharedDiskFs" "journalCount" "[I") ∈ lw_all := lw_g (lw_at lw_m1 14 rfl) rfl
theorem q42 : (Jvm.Cond.fieldLink "SharedDiskFs" (20 : Nat) "SharedDiskFs" "journalBlock" "[I") ∈ lw_all := lw_g (lw_at lw_m1 15 rfl) rfl
theorem q43 : (Jvm.Cond.fieldLink "SharedDiskFs" (23 : Nat) "SharedDiskFs" "journalValue" "[I") ∈ lw_all := lw_g (lw_at lw_m1 16 rfl) rfl
theorem q44 : (Jvm.Cond.fieldLink "SharedDiskFs" (26 : Nat) "SharedDiskFs" "journalSum" "[I") ∈ lw_all := lw_g (lw_at lw_m1 17 rfl) rfl
theorem q45 : (Jvm.Cond.fieldLink "SharedDiskFs" (29 : Nat) "SharedDiskFs" "journalMarked" "[Z") ∈ lw_all := lw_g (lw_at lw_m1 18 rfl) rfl
theorem q46 : (Jvm.Cond.fieldLink "SharedDiskFs" (32 : Nat) "SharedDiskFs" "lock" "[I") ∈ lw_all := lw_g (lw_at lw_m1 19 rfl) rfl
theorem q47 : (Jvm.Cond.fieldLink "SharedDiskFs" (35 : Nat) "SharedDiskFs" "cachedBlock" "[I") ∈ lw_all := lw_g (lw_at lw_m1 20 rfl) rfl
theorem q48 : (Jvm.Cond.fieldLink "SharedDiskFs" (38 : Nat) "SharedDiskFs" "cachedValue" "[I") ∈ lw_all := lw_g (lw_at lw_m1 21 rfl) rfl
theorem q49 : (Jvm.Cond.fieldLink "SharedDiskFs" (41 : Nat) "SharedDiskFs" "dirty" "[Z") ∈ lw_all := lw_g (lw_at lw_m1 22 rfl) rfl
theorem q50 : (Jvm.Cond.fieldLink "SharedDiskFs" (44 : Nat) "SharedDiskFs" "hand" "[I") ∈ lw_all := lw_g (lw_at lw_m1 23 rfl) rfl
theorem q51 : (Jvm.Cond.laysFinal "SharedDiskFs" "SharedDiskFs" "room" "I") ∈ lw_all := lw_g (lw_at lw_m1 24 rfl) rfl
theorem q52 : (Jvm.Cond.soleField "SharedDiskFs" "room") ∈ lw_all := lw_g (lw_at lw_m1 25 rfl) rfl
theorem q53 : (Jvm.Cond.laysFinal "SharedDiskFs" "SharedDiskFs" "running" "[Z") ∈ lw_all := lw_g (lw_at lw_m1 26 rfl) rfl
theorem q54 : (Jvm.Cond.soleField "SharedDiskFs" "running") ∈ lw_all := lw_g (lw_at lw_m1 27 rfl) rfl
theorem q55 : (Jvm.Cond.laysFinal "SharedDiskFs" "SharedDiskFs" "home" "[I") ∈ lw_all := lw_g (lw_at lw_m1 28 rfl) rfl
theorem q56 : (Jvm.Cond.soleField "SharedDiskFs" "home") ∈ lw_all := lw_g (lw_at lw_m1 29 rfl) rfl
theorem q57 : (Jvm.Cond.laysFinal "SharedDiskFs" "SharedDiskFs" "journalCount" "[I") ∈ lw_all := lw_g (lw_at lw_m1 30 rfl) rfl
theorem q58 : (Jvm.Cond.soleField "SharedDiskFs" "journalCount") ∈ lw_all := lw_g (lw_at lw_m1 31 rfl) rfl
theorem q59 : (Jvm.Cond.laysFinal "SharedDiskFs" "SharedDiskFs" "journalBlock" "[I") ∈ lw_all := lw_g (lw_at lw_m1 32 rfl) rfl
theorem q60 : (Jvm.Cond.soleField "SharedDiskFs" "journalBlock") ∈ lw_all := lw_g (lw_at lw_m1 33 rfl) rfl
theorem q61 : (Jvm.Cond.laysFinal "SharedDiskFs" "SharedDiskFs" "journalValue" "[I") ∈ lw_all := lw_g (lw_at lw_m1 34 rfl) rfl
theorem q62 : (Jvm.Cond.soleField "SharedDiskFs" "journalValue") ∈ lw_all := lw_g (lw_at lw_m1 35 rfl) rfl
theorem q63 : (Jvm.Cond.laysFinal "SharedDiskFs" "SharedDiskFs" "journalSum" "[I") ∈ lw_all := lw_g (lw_at lw_m1 36 rfl) rfl
theorem q64 : (Jvm.Cond.soleField "SharedDiskFs" "journalSum") ∈ lw_all := lw_g (lw_at lw_m1 37 rfl) rfl
theorem q65 : (Jvm.Cond.laysFinal "SharedDiskFs" "SharedDiskFs" "journalMarked" "[Z") ∈ lw_all := lw_g (lw_at lw_m1 38 rfl) rfl
theorem q66 : (Jvm.Cond.soleField "SharedDiskFs" "journalMarked") ∈ lw_all := lw_g (lw_at lw_m1 39 rfl) rfl
theorem q67 : (Jvm.Cond.laysFinal "SharedDiskFs" "SharedDiskFs" "lock" "[I") ∈ lw_all := lw_g (lw_at lw_m1 40 rfl) rfl
theorem q68 : (Jvm.Cond.soleField "SharedDiskFs" "lock") ∈ lw_all := lw_g (lw_at lw_m1 41 rfl) rfl
theorem q69 : (Jvm.Cond.laysFinal "SharedDiskFs" "SharedDiskFs" "cachedBlock" "[I") ∈ lw_all := lw_g (lw_at lw_m1 42 rfl) rfl
theorem q70 : (Jvm.Cond.soleField "SharedDiskFs" "cachedBlock") ∈ lw_all := lw_g (lw_at lw_m1 43 rfl) rfl
theorem q71 : (Jvm.Cond.laysFinal "SharedDiskFs" "SharedDiskFs" "cachedValue" "[I") ∈ lw_all := lw_g (lw_at lw_m1 44 rfl) rfl
theorem q72 : (Jvm.Cond.soleField "SharedDiskFs" "cachedValue") ∈ lw_all := lw_g (lw_at lw_m1 45 rfl) rfl
theorem q73 : (Jvm.Cond.laysFinal "SharedDiskFs" "SharedDiskFs" "dirty" "[Z") ∈ lw_all := lw_g (lw_at lw_m1 46 rfl) rfl
theorem q74 : (Jvm.Cond.soleField "SharedDiskFs" "dirty") ∈ lw_all := lw_g (lw_at lw_m1 47 rfl) rfl
theorem q75 : (Jvm.Cond.laysFinal "SharedDiskFs" "SharedDiskFs" "hand" "[I") ∈ lw_all := lw_g (lw_at lw_m1 48 rfl) rfl
theorem q76 : (Jvm.Cond.soleField "SharedDiskFs" "hand") ∈ lw_all := lw_g (lw_at lw_m1 49 rfl) rfl
theorem q77 : (Jvm.Cond.superclass "SharedDiskFs" "java/lang/Object") ∈ lw_all := lw_g (lw_at lw_m1 50 rfl) rfl
theorem q81 : (Jvm.Cond.instanceMethod ({ cls := "SharedDiskFs", name := "read", desc := "(II)I" } : Jvm.MethodName)) ∈ lw_all := lw_g (lw_at lw_m1 54 rfl) rfl
theorem q82 : (Jvm.Cond.selects "SharedDiskFs" ({ cls := "SharedDiskFs", name := "read", desc := "(II)I" } : Jvm.MethodName) ({ cls := "SharedDiskFs", name := "read", desc := "(II)I" } : Jvm.MethodName)) ∈ lw_all := lw_g (lw_at lw_m1 55 rfl) rfl
theorem q83 : (Jvm.Cond.code ({ cls := "SharedDiskFs", name := "read", desc := "(II)I" } : Jvm.MethodName) prog_1_method_24_code (3 : Nat) (Option.some Jvm.ClassFile.FieldType.int)) ∈ lw_all := lw_g (lw_at lw_m1 56 rfl) rfl
theorem q84 : (Jvm.Cond.methodLink "SharedDiskFs" (108 : Nat) ({ cls := "SharedDiskFs", name := "badNode", desc := "(I)Z" } : Jvm.MethodName)) ∈ lw_all := lw_g (lw_at lw_m1 57 rfl) rfl
theorem q85 : (Jvm.Cond.static ({ cls := "SharedDiskFs", name := "badNode", desc := "(I)Z" } : Jvm.MethodName)) ∈ lw_all := lw_g (lw_at lw_m1 58 rfl) rfl
theorem q86 : (Jvm.Cond.code ({ cls := "SharedDiskFs", name := "badNode", desc := "(I)Z" } : Jvm.MethodName) prog_1_method_2_code (1 : Nat) (Option.some Jvm.ClassFile.FieldType.boolean)) ∈ lw_all := lw_g (lw_at lw_m1 59 rfl) rfl
theorem q87 : (Jvm.Cond.methodLink "SharedDiskFs" (112 : Nat) ({ cls := "SharedDiskFs", name := "badBlock", desc := "(I)Z" } : Jvm.MethodName)) ∈ lw_all := lw_g (lw_at lw_m1 60 rfl) rfl
theorem q88 : (Jvm.Cond.static ({ cls := "SharedDiskFs", name := "badBlock", desc := "(I)Z" } : Jvm.MethodName)) ∈ lw_all := lw_g (lw_at lw_m1 61 rfl) rfl
theorem q89 : (Jvm.Cond.code ({ cls := "SharedDiskFs", name := "badBlock", desc := "(I)Z" } : Jvm.MethodName) prog_1_method_3_code (1 : Nat) (Option.some Jvm.ClassFile.FieldType.boolean)) ∈ lw_all := lw_g (lw_at lw_m1 62 rfl) rfl
theorem q90 : (Jvm.Cond.methodLink "SharedDiskFs" (115 : Nat) ({ cls := "SharedDiskFs", name := "readBlock", desc := "(II)I" } : Jvm.MethodName)) ∈ lw_all := lw_g (lw_at lw_m1 63 rfl) rfl
theorem q91 : (Jvm.Cond.privateMethod ({ cls := "SharedDiskFs", name := "readBlock", desc := "(II)I" } : Jvm.MethodName)) ∈ lw_tbl := lw_at lw_m1 64 rfl
theorem q92 : (Jvm.Cond.instanceMethod ({ cls := "SharedDiskFs", name := "readBlock", desc := "(II)I" } : Jvm.MethodName)) ∈ lw_all := lw_g (lw_at lw_m1 65 rfl) rfl
theorem q93 : (Jvm.Cond.code ({ cls := "SharedDiskFs", name := "readBlock", desc := "(II)I" } : Jvm.MethodName) prog_1_method_22_code (4 : Nat) (Option.some Jvm.ClassFile.FieldType.int)) ∈ lw_all := lw_g (lw_at lw_m1 66 rfl) rfl
theorem q94 : (Jvm.Cond.methodLink "SharedDiskFs" (102 : Nat) ({ cls := "SharedDiskFs", name := "take", desc := "(III)V" } : Jvm.MethodName)) ∈ lw_all := lw_g (lw_at lw_m1 67 rfl) rfl
theorem q95 : (Jvm.Cond.privateMethod ({ cls := "SharedDiskFs", name := "take", desc := "(III)V" } : Jvm.MethodName)) ∈ lw_tbl := lw_at lw_m1 68 rfl
theorem q96 : (Jvm.Cond.instanceMethod ({ cls := "SharedDiskFs", name := "take", desc := "(III)V" } : Jvm.MethodName)) ∈ lw_all := lw_g (lw_at lw_m1 69 rfl) rfl
theorem q97 : (Jvm.Cond.code ({ cls := "SharedDiskFs", name := "take", desc := "(III)V" } : Jvm.MethodName) prog_1_method_20_code (5 : Nat) (Option.none : Option Jvm.ClassFile.FieldType)) ∈ lw_all := lw_g (lw_at lw_m1 70 rfl) rfl
theorem q98 : (Jvm.Cond.methodLink "SharedDiskFs" (88 : Nat) ({ cls := "SharedDiskFs", name := "stepBack", desc := "(III)V" } : Jvm.MethodName)) ∈ lw_all := lw_g (lw_at lw_m1 71 rfl) rfl
theorem q99 : (Jvm.Cond.privateMethod ({ cls := "SharedDiskFs", name := "stepBack", desc := "(III)V" } : Jvm.MethodName)) ∈ lw_tbl := lw_at lw_m1 72 rfl
theorem q100 : (Jvm.Cond.instanceMethod ({ cls := "SharedDiskFs", name := "stepBack", desc := "(III)V" } : Jvm.MethodName)) ∈ lw_all := lw_g (lw_at lw_m1 73 rfl) rfl
theorem q101 : (Jvm.Cond.code ({ cls := "SharedDiskFs", name := "stepBack", desc := "(III)V" } : Jvm.MethodName) prog_1_method_21_code (5 : Nat) (Option.none : Option Jvm.ClassFile.FieldType)) ∈ lw_all := lw_g (lw_at lw_m1 74 rfl) rfl
theorem q102 : (Jvm.Cond.methodLink "SharedDiskFs" (91 : Nat) ({ cls := "SharedDiskFs", name := "isUnsafe", desc := "(II)Z" } : Jvm.MethodName)) ∈ lw_all := lw_g (lw_at lw_m1 75 rfl) rfl
theorem q103 : (Jvm.Cond.privateMethod ({ cls := "SharedDiskFs", name := "isUnsafe", desc := "(II)Z" } : Jvm.MethodName)) ∈ lw_tbl := lw_at lw_m1 76 rfl
theorem q104 : (Jvm.Cond.instanceMethod ({ cls := "SharedDiskFs", name := "isUnsafe", desc := "(II)Z" } : Jvm.MethodName)) ∈ lw_all := lw_g (lw_at lw_m1 77 rfl) rfl
theorem q105 : (Jvm.Cond.code ({ cls := "SharedDiskFs", name := "isUnsafe", desc := "(II)Z" } : Jvm.MethodName) prog_1_method_19_code (5 : Nat) (Option.some Jvm.ClassFile.FieldType.boolean)) ∈ lw_all := lw_g (lw_at lw_m1 78 rfl) rfl
theorem q106 : (Jvm.Cond.methodLink "SharedDiskFs" (51 : Nat) ({ cls := "SharedDiskFs", name := "journaled", desc := "(II)I" } : Jvm.MethodName)) ∈ lw_all := lw_g (lw_at lw_m1 79 rfl) rfl
theorem q107 : (Jvm.Cond.privateMethod ({ cls := "SharedDiskFs", name := "journaled", desc := "(II)I" } : Jvm.MethodName)) ∈ lw_tbl := lw_at lw_m1 80 rfl
theorem q108 : (Jvm.Cond.instanceMethod ({ cls := "SharedDiskFs", name := "journaled", desc := "(II)I" } : Jvm.MethodName)) ∈ lw_all := lw_g (lw_at lw_m1 81 rfl) rfl
theorem q109 : (Jvm.Cond.code ({ cls := "SharedDiskFs", name := "journaled", desc := "(II)I" } : Jvm.MethodName) prog_1_method_4_code (4 : Nat) (Option.some Jvm.ClassFile.FieldType.int)) ∈ lw_all := lw_g (lw_at lw_m1 82 rfl) rfl
theorem q110 : (Jvm.Cond.methodLink "SharedDiskFs" (63 : Nat) ({ cls := "SharedDiskFs", name := "cached", desc := "(II)I" } : Jvm.MethodName)) ∈ lw_all := lw_g (lw_at lw_m1 83 rfl) rfl
theorem q111 : (Jvm.Cond.privateMethod ({ cls := "SharedDiskFs", name := "cached", desc := "(II)I" } : Jvm.MethodName)) ∈ lw_tbl := lw_at lw_m1 84 rfl
theorem q112 : (Jvm.Cond.instanceMethod ({ cls := "SharedDiskFs", name := "cached", desc := "(II)I" } : Jvm.MethodName)) ∈ lw_all := lw_g (lw_at lw_m1 85 rfl) rfl
theorem q113 : (Jvm.Cond.code ({ cls := "SharedDiskFs", name := "cached", desc := "(II)I" } : Jvm.MethodName) prog_1_method_11_code (4 : Nat) (Option.some Jvm.ClassFile.FieldType.int)) ∈ lw_all := lw_g (lw_at lw_m1 86 rfl) rfl
theorem q114 : (Jvm.Cond.methodLink "SharedDiskFs" (95 : Nat) ({ cls := "SharedDiskFs", name := "makeSafe", desc := "(I)I" } : Jvm.MethodName)) ∈ lw_all := lw_g (lw_at lw_m1 87 rfl) rfl
theorem q115 : (Jvm.Cond.privateMethod ({ cls := "SharedDiskFs", name := "makeSafe", desc := "(I)I" } : Jvm.MethodName)) ∈ lw_tbl := lw_at lw_m1 88 rfl
theorem q116 : (Jvm.Cond.instanceMethod ({ cls := "SharedDiskFs", name := "makeSafe", desc := "(I)I" } : Jvm.MethodName)) ∈ lw_all := lw_g (lw_at lw_m1 89 rfl) rfl
theorem q117 : (Jvm.Cond.code ({ cls := "SharedDiskFs", name := "makeSafe", desc := "(I)I" } : Jvm.MethodName) prog_1_method_18_code (3 : Nat) (Option.some Jvm.ClassFile.FieldType.int)) ∈ lw_all := lw_g (lw_at lw_m1 90 rfl) rfl
theorem q118 : (Jvm.Cond.methodLink "SharedDiskFs" (76 : Nat) ({ cls := "SharedDiskFs", name := "unsafeCount", desc := "(I)I" } : Jvm.MethodName)) ∈ lw_all := lw_g (lw_at lw_m1 91 rfl) rfl
theorem q119 : (Jvm.Cond.privateMethod ({ cls := "SharedDiskFs", name := "unsafeCount", desc := "(I)I" } : Jvm.MethodName)) ∈ lw_tbl := lw_at lw_m1 92 rfl
theorem q120 : (Jvm.Cond.instanceMethod ({ cls := "SharedDiskFs", name := "unsafeCount", desc := "(I)I" } : Jvm.MethodName)) ∈ lw_all := lw_g (lw_at lw_m1 93 rfl) rfl
theorem q121 : (Jvm.Cond.code ({ cls := "SharedDiskFs", name := "unsafeCount", desc := "(I)I" } : Jvm.MethodName) prog_1_method_17_code (5 : Nat) (Option.some Jvm.ClassFile.FieldType.int)) ∈ lw_all := lw_g (lw_at lw_m1 94 rfl) rfl
theorem q122 : (Jvm.Cond.methodLink "SharedDiskFs" (79 : Nat) ({ cls := "SharedDiskFs", name := "fillJournal", desc := "(I)V" } : Jvm.MethodName)) ∈ lw_all := lw_g (lw_at lw_m1 95 rfl) rfl
theorem q123 : (Jvm.Cond.privateMethod ({ cls := "SharedDiskFs", name := "fillJournal", desc := "(I)V" } : Jvm.MethodName)) ∈ lw_tbl := lw_at lw_m1 96 rfl
theorem q124 : (Jvm.Cond.instanceMethod ({ cls := "SharedDiskFs", name := "fillJournal", desc := "(I)V" } : Jvm.MethodName)) ∈ lw_all := lw_g (lw_at lw_m1 97 rfl) rfl
theorem q125 : (Jvm.Cond.code ({ cls := "SharedDiskFs", name := "fillJournal", desc := "(I)V" } : Jvm.MethodName) prog_1_method_16_code (3 : Nat) (Option.none : Option Jvm.ClassFile.FieldType)) ∈ lw_all := lw_g (lw_at lw_m1 98 rfl) rfl
theorem q126 : (Jvm.Cond.methodLink "SharedDiskFs" (66 : Nat) ({ cls := "SharedDiskFs", name := "writeJournal", desc := "(III)V" } : Jvm.MethodName)) ∈ lw_all := lw_g (lw_at lw_m1 99 rfl) rfl
theorem q127 : (Jvm.Cond.privateMethod ({ cls := "SharedDiskFs", name := "writeJournal", desc := "(III)V" } : Jvm.MethodName)) ∈ lw_tbl := lw_at lw_m1 100 rfl
theorem q128 : (Jvm.Cond.instanceMethod ({ cls := "SharedDiskFs", name := "writeJournal", desc := "(III)V" } : Jvm.MethodName)) ∈ lw_all := lw_g (lw_at lw_m1 101 rfl) rfl
theorem q129 : (Jvm.Cond.code ({ cls := "SharedDiskFs", name := "writeJournal", desc := "(III)V" } : Jvm.MethodName) prog_1_method_5_code (5 : Nat) (Option.none : Option Jvm.ClassFile.FieldType)) ∈ lw_all := lw_g (lw_at lw_m1 102 rfl) rfl
theorem q130 : (Jvm.Cond.methodLink "SharedDiskFs" (82 : Nat) ({ cls := "SharedDiskFs", name := "markJournal", desc := "(I)V" } : Jvm.MethodName)) ∈ lw_all := lw_g (lw_at lw_m1 103 rfl) rfl
theorem q131 : (Jvm.Cond.privateMethod ({ cls := "SharedDiskFs", name := "markJournal", desc := "(I)V" } : Jvm.MethodName)) ∈ lw_tbl := lw_at lw_m1 104 rfl
theorem q132 : (Jvm.Cond.instanceMethod ({ cls := "SharedDiskFs", name := "markJournal", desc := "(I)V" } : Jvm.MethodName)) ∈ lw_all := lw_g (lw_at lw_m1 105 rfl) rfl
theorem q133 : (Jvm.Cond.code ({ cls := "SharedDiskFs", name := "markJournal", desc := "(I)V" } : Jvm.MethodName) prog_1_method_7_code (2 : Nat) (Option.none : Option Jvm.ClassFile.FieldType)) ∈ lw_all := lw_g (lw_at lw_m1 106 rfl) rfl
theorem q134 : (Jvm.Cond.methodLink "SharedDiskFs" (55 : Nat) ({ cls := "SharedDiskFs", name := "sumOf", desc := "(I)I" } : Jvm.MethodName)) ∈ lw_all := lw_g (lw_at lw_m1 107 rfl) rfl
theorem q135 : (Jvm.Cond.privateMethod ({ cls := "SharedDiskFs", name := "sumOf", desc := "(I)I" } : Jvm.MethodName)) ∈ lw_tbl := lw_at lw_m1 108 rfl
theorem q136 : (Jvm.Cond.instanceMethod ({ cls := "SharedDiskFs", name := "sumOf", desc := "(I)I" } : Jvm.MethodName)) ∈ lw_all := lw_g (lw_at lw_m1 109 rfl) rfl
theorem q137 : (Jvm.Cond.code ({ cls := "SharedDiskFs", name := "sumOf", desc := "(I)I" } : Jvm.MethodName) prog_1_method_6_code (4 : Nat) (Option.some Jvm.ClassFile.FieldType.int)) ∈ lw_all := lw_g (lw_at lw_m1 110 rfl) rfl
theorem q138 : (Jvm.Cond.methodLink "SharedDiskFs" (85 : Nat) ({ cls := "SharedDiskFs", name := "bringHome", desc := "(I)V" } : Jvm.MethodName)) ∈ lw_all := lw_g (lw_at lw_m1 111 rfl) rfl
theorem q139 : (Jvm.Cond.privateMethod ({ cls := "SharedDiskFs", name := "bringHome", desc := "(I)V" } : Jvm.MethodName)) ∈ lw_tbl := lw_at lw_m1 112 rfl
theorem q140 : (Jvm.Cond.instanceMethod ({ cls := "SharedDiskFs", name := "bringHome", desc := "(I)V" } : Jvm.MethodName)) ∈ lw_all := lw_g (lw_at lw_m1 113 rfl) rfl
theorem q141 : (Jvm.Cond.code ({ cls := "SharedDiskFs", name := "bringHome", desc := "(I)V" } : Jvm.MethodName) prog_1_method_9_code (3 : Nat) (Option.none : Option Jvm.ClassFile.FieldType)) ∈ lw_all := lw_g (lw_at lw_m1 114 rfl) rfl
theorem q142 : (Jvm.Cond.methodLink "SharedDiskFs" (59 : Nat) ({ cls := "SharedDiskFs", name := "emptyJournal", desc := "(I)V" } : Jvm.MethodName)) ∈ lw_all := lw_g (lw_at lw_m1 115 rfl) rfl
theorem q143 : (Jvm.Cond.privateMethod ({ cls := "SharedDiskFs", name := "emptyJournal", desc := "(I)V" } : Jvm.MethodName)) ∈ lw_tbl := lw_at lw_m1 116 rfl
theorem q144 : (Jvm.Cond.instanceMethod ({ cls := "SharedDiskFs", name := "emptyJournal", desc := "(I)V" } : Jvm.MethodName)) ∈ lw_all := lw_g (lw_at lw_m1 117 rfl) rfl
theorem q145 : (Jvm.Cond.code ({ cls := "SharedDiskFs", name := "emptyJournal", desc := "(I)V" } : Jvm.MethodName) prog_1_method_10_code (2 : Nat) (Option.none : Option Jvm.ClassFile.FieldType)) ∈ lw_all := lw_g (lw_at lw_m1 118 rfl) rfl
theorem q146 : (Jvm.Cond.methodLink "SharedDiskFs" (98 : Nat) ({ cls := "SharedDiskFs", name := "forget", desc := "(II)V" } : Jvm.MethodName)) ∈ lw_all := lw_g (lw_at lw_m1 119 rfl) rfl
theorem q147 : (Jvm.Cond.privateMethod ({ cls := "SharedDiskFs", name := "forget", desc := "(II)V" } : Jvm.MethodName)) ∈ lw_tbl := lw_at lw_m1 120 rfl
theorem q148 : (Jvm.Cond.instanceMethod ({ cls := "SharedDiskFs", name := "forget", desc := "(II)V" } : Jvm.MethodName)) ∈ lw_all := lw_g (lw_at lw_m1 121 rfl) rfl
theorem q149 : (Jvm.Cond.code ({ cls := "SharedDiskFs", name := "forget", desc := "(II)V" } : Jvm.MethodName) prog_1_method_14_code (4 : Nat) (Option.none : Option Jvm.ClassFile.FieldType)) ∈ lw_all := lw_g (lw_at lw_m1 122 rfl) rfl
theorem q150 : (Jvm.Cond.methodLink "SharedDiskFs" (70 : Nat) ({ cls := "SharedDiskFs", name := "dropCell", desc := "(I)V" } : Jvm.MethodName)) ∈ lw_all := lw_g (lw_at lw_m1 123 rfl) rfl
theorem q151 : (Jvm.Cond.privateMethod ({ cls := "SharedDiskFs", name := "dropCell", desc := "(I)V" } : Jvm.MethodName)) ∈ lw_tbl := lw_at lw_m1 124 rfl
theorem q152 : (Jvm.Cond.instanceMethod ({ cls := "SharedDiskFs", name := "dropCell", desc := "(I)V" } : Jvm.MethodName)) ∈ lw_all := lw_g (lw_at lw_m1 125 rfl) rfl
theorem q153 : (Jvm.Cond.code ({ cls := "SharedDiskFs", name := "dropCell", desc := "(I)V" } : Jvm.MethodName) prog_1_method_13_code (2 : Nat) (Option.none : Option Jvm.ClassFile.FieldType)) ∈ lw_all := lw_g (lw_at lw_m1 126 rfl) rfl
theorem q154 : (Jvm.Cond.methodLink "SharedDiskFs" (105 : Nat) ({ cls := "SharedDiskFs", name := "bringIn", desc := "(II)I" } : Jvm.MethodName)) ∈ lw_all := lw_g (lw_at lw_m1 127 rfl) rfl
theorem q155 : (Jvm.Cond.privateMethod ({ cls := "SharedDiskFs", name := "bringIn", desc := "(II)I" } : Jvm.MethodName)) ∈ lw_tbl := lw_at lw_m1 128 rfl
theorem q156 : (Jvm.Cond.instanceMethod ({ cls := "SharedDiskFs", name := "bringIn", desc := "(II)I" } : Jvm.MethodName)) ∈ lw_all := lw_g (lw_at lw_m1 129 rfl) rfl
theorem q157 : (Jvm.Cond.code ({ cls := "SharedDiskFs", name := "bringIn", desc := "(II)I" } : Jvm.MethodName) prog_1_method_15_code (5 : Nat) (Option.some Jvm.ClassFile.FieldType.int)) ∈ lw_all := lw_g (lw_at lw_m1 130 rfl) rfl
theorem q158 : (Jvm.Cond.methodLink "SharedDiskFs" (73 : Nat) ({ cls := "SharedDiskFs", name := "freeCell", desc := "(I)I" } : Jvm.MethodName)) ∈ lw_all := lw_g (lw_at lw_m1 131 rfl) rfl
theorem q159 : (Jvm.Cond.privateMethod ({ cls := "SharedDiskFs", name := "freeCell", desc := "(I)I" } : Jvm.MethodName)) ∈ lw_tbl := lw_at lw_m1 132 rfl
theorem q160 : (Jvm.Cond.instanceMethod ({ cls := "SharedDiskFs", name := "freeCell", desc := "(I)I" } : Jvm.MethodName)) ∈ lw_all := lw_g (lw_at lw_m1 133 rfl) rfl
theorem q161 : (Jvm.Cond.code ({ cls := "SharedDiskFs", name := "freeCell", desc := "(I)I" } : Jvm.MethodName) prog_1_method_12_code (4 : Nat) (Option.some Jvm.ClassFile.FieldType.int)) ∈ lw_all := lw_g (lw_at lw_m1 134 rfl) rfl
theorem q163 : (Jvm.Cond.instanceMethod ({ cls := "SharedDiskFs", name := "write", desc := "(III)I" } : Jvm.MethodName)) ∈ lw_all := lw_g (lw_at lw_m1 136 rfl) rfl
theorem q164 : (Jvm.Cond.selects "SharedDiskFs" ({ cls := "SharedDiskFs", name := "write", desc := "(III)I" } : Jvm.MethodName) ({ cls := "SharedDiskFs", name := "write", desc := "(III)I" } : Jvm.MethodName)) ∈ lw_all := lw_g (lw_at lw_m1 137 rfl) rfl
theorem q165 : (Jvm.Cond.code ({ cls := "SharedDiskFs", name := "write", desc := "(III)I" } : Jvm.MethodName) prog_1_method_25_code (4 : Nat) (Option.some Jvm.ClassFile.FieldType.int)) ∈ lw_all := lw_g (lw_at lw_m1 138 rfl) rfl
theorem q166 : (Jvm.Cond.methodLink "SharedDiskFs" (118 : Nat) ({ cls := "SharedDiskFs", name := "writeBlock", desc := "(III)V" } : Jvm.MethodName)) ∈ lw_all := lw_g (lw_at lw_m1 139 rfl) rfl
theorem q167 : (Jvm.Cond.privateMethod ({ cls := "SharedDiskFs", name := "writeBlock", desc := "(III)V" } : Jvm.MethodName)) ∈ lw_tbl := lw_at lw_m1 140 rfl
theorem q168 : (Jvm.Cond.instanceMethod ({ cls := "SharedDiskFs", name := "writeBlock", desc := "(III)V" } : Jvm.MethodName)) ∈ lw_all := lw_g (lw_at lw_m1 141 rfl) rfl
theorem q169 : (Jvm.Cond.code ({ cls := "SharedDiskFs", name := "writeBlock", desc := "(III)V" } : Jvm.MethodName) prog_1_method_23_code (5 : Nat) (Option.none : Option Jvm.ClassFile.FieldType)) ∈ lw_all := lw_g (lw_at lw_m1 142 rfl) rfl
theorem q171 : (Jvm.Cond.instanceMethod ({ cls := "SharedDiskFs", name := "swap", desc := "(III)I" } : Jvm.MethodName)) ∈ lw_all := lw_g (lw_at lw_m1 144 rfl) rfl
theorem q172 : (Jvm.Cond.selects "SharedDiskFs" ({ cls := "SharedDiskFs", name := "swap", desc := "(III)I" } : Jvm.MethodName) ({ cls := "SharedDiskFs", name := "swap", desc := "(III)I" } : Jvm.MethodName)) ∈ lw_all := lw_g (lw_at lw_m1 145 rfl) rfl
theorem q173 : (Jvm.Cond.code ({ cls := "SharedDiskFs", name := "swap", desc := "(III)I" } : Jvm.MethodName) prog_1_method_26_code (6 : Nat) (Option.some Jvm.ClassFile.FieldType.int)) ∈ lw_all := lw_g (lw_at lw_m1 146 rfl) rfl
theorem q175 : (Jvm.Cond.instanceMethod ({ cls := "SharedDiskFs", name := "sync", desc := "(I)I" } : Jvm.MethodName)) ∈ lw_all := lw_g (lw_at lw_m1 148 rfl) rfl
theorem q176 : (Jvm.Cond.selects "SharedDiskFs" ({ cls := "SharedDiskFs", name := "sync", desc := "(I)I" } : Jvm.MethodName) ({ cls := "SharedDiskFs", name := "sync", desc := "(I)I" } : Jvm.MethodName)) ∈ lw_all := lw_g (lw_at lw_m1 149 rfl) rfl
theorem q177 : (Jvm.Cond.code ({ cls := "SharedDiskFs", name := "sync", desc := "(I)I" } : Jvm.MethodName) prog_1_method_27_code (2 : Nat) (Option.some Jvm.ClassFile.FieldType.int)) ∈ lw_all := lw_g (lw_at lw_m1 150 rfl) rfl
theorem q179 : (Jvm.Cond.instanceMethod ({ cls := "SharedDiskFs", name := "crash", desc := "(I)I" } : Jvm.MethodName)) ∈ lw_all := lw_g (lw_at lw_m1 152 rfl) rfl
theorem q180 : (Jvm.Cond.selects "SharedDiskFs" ({ cls := "SharedDiskFs", name := "crash", desc := "(I)I" } : Jvm.MethodName) ({ cls := "SharedDiskFs", name := "crash", desc := "(I)I" } : Jvm.MethodName)) ∈ lw_all := lw_g (lw_at lw_m1 153 rfl) rfl
theorem q181 : (Jvm.Cond.code ({ cls := "SharedDiskFs", name := "crash", desc := "(I)I" } : Jvm.MethodName) prog_1_method_29_code (3 : Nat) (Option.some Jvm.ClassFile.FieldType.int)) ∈ lw_all := lw_g (lw_at lw_m1 154 rfl) rfl
theorem q182 : (Jvm.Cond.methodLink "SharedDiskFs" (124 : Nat) ({ cls := "SharedDiskFs", name := "die", desc := "(I)V" } : Jvm.MethodName)) ∈ lw_all := lw_g (lw_at lw_m1 155 rfl) rfl
theorem q183 : (Jvm.Cond.privateMethod ({ cls := "SharedDiskFs", name := "die", desc := "(I)V" } : Jvm.MethodName)) ∈ lw_tbl := lw_at lw_m1 156 rfl
theorem q184 : (Jvm.Cond.instanceMethod ({ cls := "SharedDiskFs", name := "die", desc := "(I)V" } : Jvm.MethodName)) ∈ lw_all := lw_g (lw_at lw_m1 157 rfl) rfl
theorem q185 : (Jvm.Cond.code ({ cls := "SharedDiskFs", name := "die", desc := "(I)V" } : Jvm.MethodName) prog_1_method_28_code (4 : Nat) (Option.none : Option Jvm.ClassFile.FieldType)) ∈ lw_all := lw_g (lw_at lw_m1 158 rfl) rfl
theorem q186 : (Jvm.Cond.methodLink "SharedDiskFs" (121 : Nat) ({ cls := "SharedDiskFs", name := "whole", desc := "(I)Z" } : Jvm.MethodName)) ∈ lw_all := lw_g (lw_at lw_m1 159 rfl) rfl
theorem q187 : (Jvm.Cond.privateMethod ({ cls := "SharedDiskFs", name := "whole", desc := "(I)Z" } : Jvm.MethodName)) ∈ lw_tbl := lw_at lw_m1 160 rfl
theorem q188 : (Jvm.Cond.instanceMethod ({ cls := "SharedDiskFs", name := "whole", desc := "(I)Z" } : Jvm.MethodName)) ∈ lw_all := lw_g (lw_at lw_m1 161 rfl) rfl
theorem q189 : (Jvm.Cond.code ({ cls := "SharedDiskFs", name := "whole", desc := "(I)Z" } : Jvm.MethodName) prog_1_method_8_code (3 : Nat) (Option.some Jvm.ClassFile.FieldType.boolean)) ∈ lw_all := lw_g (lw_at lw_m1 162 rfl) rfl
theorem q191 : (Jvm.Cond.instanceMethod ({ cls := "SharedDiskFs", name := "crashInSync", desc := "(IZ)I" } : Jvm.MethodName)) ∈ lw_all := lw_g (lw_at lw_m1 164 rfl) rfl
theorem q192 : (Jvm.Cond.selects "SharedDiskFs" ({ cls := "SharedDiskFs", name := "crashInSync", desc := "(IZ)I" } : Jvm.MethodName) ({ cls := "SharedDiskFs", name := "crashInSync", desc := "(IZ)I" } : Jvm.MethodName)) ∈ lw_all := lw_g (lw_at lw_m1 165 rfl) rfl
theorem q193 : (Jvm.Cond.code ({ cls := "SharedDiskFs", name := "crashInSync", desc := "(IZ)I" } : Jvm.MethodName) prog_1_method_30_code (4 : Nat) (Option.some Jvm.ClassFile.FieldType.int)) ∈ lw_all := lw_g (lw_at lw_m1 166 rfl) rfl
theorem q195 : (Jvm.Cond.instanceMethod ({ cls := "SharedDiskFs", name := "restart", desc := "(I)I" } : Jvm.MethodName)) ∈ lw_all := lw_g (lw_at lw_m1 168 rfl) rfl
theorem q196 : (Jvm.Cond.selects "SharedDiskFs" ({ cls := "SharedDiskFs", name := "restart", desc := "(I)I" } : Jvm.MethodName) ({ cls := "SharedDiskFs", name := "restart", desc := "(I)I" } : Jvm.MethodName)) ∈ lw_all := lw_g (lw_at lw_m1 169 rfl) rfl
theorem q197 : (Jvm.Cond.code ({ cls := "SharedDiskFs", name := "restart", desc := "(I)I" } : Jvm.MethodName) prog_1_method_31_code (3 : Nat) (Option.some Jvm.ClassFile.FieldType.int)) ∈ lw_all := lw_g (lw_at lw_m1 170 rfl) rfl
theorem q199 : (Jvm.Cond.instanceMethod ({ cls := "SharedDiskFs", name := "powerCut", desc := "()I" } : Jvm.MethodName)) ∈ lw_all := lw_g (lw_at lw_m1 172 rfl) rfl
theorem q200 : (Jvm.Cond.selects "SharedDiskFs" ({ cls := "SharedDiskFs", name := "powerCut", desc := "()I" } : Jvm.MethodName) ({ cls := "SharedDiskFs", name := "powerCut", desc := "()I" } : Jvm.MethodName)) ∈ lw_all := lw_g (lw_at lw_m1 173 rfl) rfl
theorem q201 : (Jvm.Cond.code ({ cls := "SharedDiskFs", name := "powerCut", desc := "()I" } : Jvm.MethodName) prog_1_method_32_code (3 : Nat) (Option.some Jvm.ClassFile.FieldType.int)) ∈ lw_all := lw_g (lw_at lw_m1 174 rfl) rfl
theorem q203 : (Jvm.Cond.instanceMethod ({ cls := "SharedDiskFs", name := "content", desc := "(I)I" } : Jvm.MethodName)) ∈ lw_all := lw_g (lw_at lw_m1 176 rfl) rfl
theorem q204 : (Jvm.Cond.selects "SharedDiskFs" ({ cls := "SharedDiskFs", name := "content", desc := "(I)I" } : Jvm.MethodName) ({ cls := "SharedDiskFs", name := "content", desc := "(I)I" } : Jvm.MethodName)) ∈ lw_all := lw_g (lw_at lw_m1 177 rfl) rfl
theorem q205 : (Jvm.Cond.code ({ cls := "SharedDiskFs", name := "content", desc := "(I)I" } : Jvm.MethodName) prog_1_method_34_code (5 : Nat) (Option.some Jvm.ClassFile.FieldType.int)) ∈ lw_all := lw_g (lw_at lw_m1 178 rfl) rfl
theorem q206 : (Jvm.Cond.methodLink "SharedDiskFs" (127 : Nat) ({ cls := "SharedDiskFs", name := "ownerOf", desc := "(I)I" } : Jvm.MethodName)) ∈ lw_all := lw_g (lw_at lw_m1 179 rfl) rfl
theorem q207 : (Jvm.Cond.privateMethod ({ cls := "SharedDiskFs", name := "ownerOf", desc := "(I)I" } : Jvm.MethodName)) ∈ lw_tbl := lw_at lw_m1 180 rfl
theorem q208 : (Jvm.Cond.instanceMethod ({ cls := "SharedDiskFs", name := "ownerOf", desc := "(I)I" } : Jvm.MethodName)) ∈ lw_all := lw_g (lw_at lw_m1 181 rfl) rfl
theorem q209 : (Jvm.Cond.code ({ cls := "SharedDiskFs", name := "ownerOf", desc := "(I)I" } : Jvm.MethodName) prog_1_method_33_code (4 : Nat) (Option.some Jvm.ClassFile.FieldType.int)) ∈ lw_all := lw_g (lw_at lw_m1 182 rfl) rfl
theorem q211 : (Jvm.Cond.instanceMethod ({ cls := "SharedDiskFs", name := "safe", desc := "(I)I" } : Jvm.MethodName)) ∈ lw_all := lw_g (lw_at lw_m1 184 rfl) rfl
theorem q212 : (Jvm.Cond.selects "SharedDiskFs" ({ cls := "SharedDiskFs", name := "safe", desc := "(I)I" } : Jvm.MethodName) ({ cls := "SharedDiskFs", name := "safe", desc := "(I)I" } : Jvm.MethodName)) ∈ lw_all := lw_g (lw_at lw_m1 185 rfl) rfl
theorem q213 : (Jvm.Cond.code ({ cls := "SharedDiskFs", name := "safe", desc := "(I)I" } : Jvm.MethodName) prog_1_method_35_code (2 : Nat) (Option.some Jvm.ClassFile.FieldType.int)) ∈ lw_all := lw_g (lw_at lw_m1 186 rfl) rfl
theorem q215 : (Jvm.Cond.instanceMethod ({ cls := "SharedDiskFs", name := "owner", desc := "(I)I" } : Jvm.MethodName)) ∈ lw_all := lw_g (lw_at lw_m1 188 rfl) rfl
theorem q216 : (Jvm.Cond.selects "SharedDiskFs" ({ cls := "SharedDiskFs", name := "owner", desc := "(I)I" } : Jvm.MethodName) ({ cls := "SharedDiskFs", name := "owner", desc := "(I)I" } : Jvm.MethodName)) ∈ lw_all := lw_g (lw_at lw_m1 189 rfl) rfl
theorem q217 : (Jvm.Cond.code ({ cls := "SharedDiskFs", name := "owner", desc := "(I)I" } : Jvm.MethodName) prog_1_method_36_code (2 : Nat) (Option.some Jvm.ClassFile.FieldType.int)) ∈ lw_all := lw_g (lw_at lw_m1 190 rfl) rfl
theorem q219 : (Jvm.Cond.instanceMethod ({ cls := "SharedDiskFs", name := nmU, desc := "(I)I" } : Jvm.MethodName)) ∈ lw_all := lw_g (lw_at lw_m1 192 rfl) rfl
theorem q220 : (Jvm.Cond.selects "SharedDiskFs" ({ cls := "SharedDiskFs", name := nmU, desc := "(I)I" } : Jvm.MethodName) ({ cls := "SharedDiskFs", name := nmU, desc := "(I)I" } : Jvm.MethodName)) ∈ lw_all := lw_g (lw_at lw_m1 193 rfl) rfl
theorem q221 : (Jvm.Cond.code ({ cls := "SharedDiskFs", name := nmU, desc := "(I)I" } : Jvm.MethodName) prog_1_method_37_code (2 : Nat) (Option.some Jvm.ClassFile.FieldType.int)) ∈ lw_all := lw_g (lw_at lw_m1 194 rfl) rfl
theorem q223 : (Jvm.Cond.instanceMethod ({ cls := "SharedDiskFs", name := "up", desc := "(I)Z" } : Jvm.MethodName)) ∈ lw_all := lw_g (lw_at lw_m1 196 rfl) rfl
theorem q224 : (Jvm.Cond.selects "SharedDiskFs" ({ cls := "SharedDiskFs", name := "up", desc := "(I)Z" } : Jvm.MethodName) ({ cls := "SharedDiskFs", name := "up", desc := "(I)Z" } : Jvm.MethodName)) ∈ lw_all := lw_g (lw_at lw_m1 197 rfl) rfl
theorem q225 : (Jvm.Cond.code ({ cls := "SharedDiskFs", name := "up", desc := "(I)Z" } : Jvm.MethodName) prog_1_method_38_code (2 : Nat) (Option.some Jvm.ClassFile.FieldType.boolean)) ∈ lw_all := lw_g (lw_at lw_m1 198 rfl) rfl
theorem in_X1 : ∀ w ∈ wsX10, w ∈ lw_all := lw_in wsX10 [51, 53, 55, 57, 59, 61, 63, 65, 67, 69, 71, 73, 75] (by decide +kernel) (by decide +kernel)
end
section
/-! SharedDiskFsModel -/
set_option maxRecDepth 100000
def RX2 : String := "SharedDiskFsModel"
def TX2 : u_T := fun k => match k with
  | 0 => ("SharedDiskFsModel", "contents", "[I", true)
  | 1 => ("SharedDiskFsModel", "safes", "[I", true)
  | 2 => ("SharedDiskFsModel", "owners", "[I", true)
  | _ => ("SharedDiskFsModel", "down", "[Z", true)
def tyX2 : Nat → FieldType := fun k => match k with
  | 0 => .array .int
  | 1 => .array .int
  | 2 => .array .int
  | _ => .array .boolean
abbrev wsX20 : List Cond := u_ws RX2 TX2 4
theorem nmX2 : ∀ a, a < 4 → ∀ b, b < 4 → a ≠ b → (TX2 a).2.1 ≠ (TX2 b).2.1 := by decide +kernel
theorem tyX2_ok : ∀ k, k < 4 → parseFieldDescriptor (TX2 k).2.2.1 = some (tyX2 k) := by decide +kernel
abbrev cX2_init : ByteArray := prog_3_method_1_code
def yX2_init : MethodName := ⟨RX2, "<init>", "(I)V"⟩
theorem dX2_init_0 : decode cX2_init 0 = .ok (.aload_n 0, 1) := by decide +kernel
theorem dX2_init_1 : decode cX2_init 1 = .ok (.invokespecial 1, 3) := by decide +kernel
theorem dX2_init_4 : decode cX2_init 4 = .ok (.aload_n 0, 1) := by decide +kernel
theorem dX2_init_5 : decode cX2_init 5 = .ok (.bipush 16, 2) := by decide +kernel
theorem dX2_init_7 : decode cX2_init 7 = .ok (.newarray .int, 2) := by decide +kernel
theorem dX2_init_9 : decode cX2_init 9 = .ok (.putfield 7, 3) := by decide +kernel
theorem dX2_init_12 : decode cX2_init 12 = .ok (.aload_n 0, 1) := by decide +kernel
theorem dX2_init_13 : decode cX2_init 13 = .ok (.bipush 16, 2) := by decide +kernel
theorem dX2_init_15 : decode cX2_init 15 = .ok (.newarray .int, 2) := by decide +kernel
theorem dX2_init_17 : decode cX2_init 17 = .ok (.putfield 13, 3) := by decide +kernel
theorem dX2_init_20 : decode cX2_init 20 = .ok (.aload_n 0, 1) := by decide +kernel
theorem dX2_init_21 : decode cX2_init 21 = .ok (.bipush 16, 2) := by decide +kernel
theorem dX2_init_23 : decode cX2_init 23 = .ok (.newarray .int, 2) := by decide +kernel
theorem dX2_init_25 : decode cX2_init 25 = .ok (.putfield 16, 3) := by decide +kernel
theorem dX2_init_28 : decode cX2_init 28 = .ok (.aload_n 0, 1) := by decide +kernel
theorem dX2_init_29 : decode cX2_init 29 = .ok (.iconst 3, 1) := by decide +kernel
theorem dX2_init_30 : decode cX2_init 30 = .ok (.newarray .boolean, 2) := by decide +kernel
theorem dX2_init_32 : decode cX2_init 32 = .ok (.putfield 19, 3) := by decide +kernel
theorem dX2_init_35 : decode cX2_init 35 = .ok (.iconst 0, 1) := by decide +kernel
theorem dX2_init_36 : decode cX2_init 36 = .ok (.istore_n 2, 1) := by decide +kernel
theorem dX2_init_37 : decode cX2_init 37 = .ok (.iload_n 2, 1) := by decide +kernel
theorem dX2_init_38 : decode cX2_init 38 = .ok (.bipush 16, 2) := by decide +kernel
theorem dX2_init_40 : decode cX2_init 40 = .ok (.if_icmp .ge 17, 3) := by decide +kernel
theorem dX2_init_43 : decode cX2_init 43 = .ok (.aload_n 0, 1) := by decide +kernel
theorem dX2_init_44 : decode cX2_init 44 = .ok (.getfield 16, 3) := by decide +kernel
theorem dX2_init_47 : decode cX2_init 47 = .ok (.iload_n 2, 1) := by decide +kernel
theorem dX2_init_48 : decode cX2_init 48 = .ok (.bipush (-4), 2) := by decide +kernel
theorem dX2_init_50 : decode cX2_init 50 = .ok (.iastore, 1) := by decide +kernel
theorem dX2_init_51 : decode cX2_init 51 = .ok (.iinc 2 1, 3) := by decide +kernel
theorem dX2_init_54 : decode cX2_init 54 = .ok (.goto (-17), 3) := by decide +kernel
theorem dX2_init_57 : decode cX2_init 57 = .ok (.return_, 1) := by decide +kernel
abbrev cX2_read : ByteArray := prog_3_method_7_code
def yX2_read : MethodName := ⟨RX2, "read", "(II)I"⟩
theorem dX2_read_0 : decode cX2_read 0 = .ok (.aload_n 0, 1) := by decide +kernel
theorem dX2_read_1 : decode cX2_read 1 = .ok (.iload_n 1, 1) := by decide +kernel
theorem dX2_read_2 : decode cX2_read 2 = .ok (.iload_n 2, 1) := by decide +kernel
theorem dX2_read_3 : decode cX2_read 3 = .ok (.iload_n 2, 1) := by decide +kernel
theorem dX2_read_4 : decode cX2_read 4 = .ok (.invokevirtual 34, 3) := by decide +kernel
theorem dX2_read_7 : decode cX2_read 7 = .ok (.istore_n 3, 1) := by decide +kernel
theorem dX2_read_8 : decode cX2_read 8 = .ok (.iload_n 3, 1) := by decide +kernel
theorem dX2_read_9 : decode cX2_read 9 = .ok (.ifCond .ge 5, 3) := by decide +kernel
theorem dX2_read_12 : decode cX2_read 12 = .ok (.iload_n 3, 1) := by decide +kernel
theorem dX2_read_13 : decode cX2_read 13 = .ok (.ireturn, 1) := by decide +kernel
theorem dX2_read_14 : decode cX2_read 14 = .ok (.aload_n 0, 1) := by decide +kernel
theorem dX2_read_15 : decode cX2_read 15 = .ok (.iload_n 1, 1) := by decide +kernel
theorem dX2_read_16 : decode cX2_read 16 = .ok (.iload_n 2, 1) := by decide +kernel
theorem dX2_read_17 : decode cX2_read 17 = .ok (.invokevirtual 38, 3) := by decide +kernel
theorem dX2_read_20 : decode cX2_read 20 = .ok (.aload_n 0, 1) := by decide +kernel
theorem dX2_read_21 : decode cX2_read 21 = .ok (.getfield 7, 3) := by decide +kernel
theorem dX2_read_24 : decode cX2_read 24 = .ok (.iload_n 2, 1) := by decide +kernel
theorem dX2_read_25 : decode cX2_read 25 = .ok (.iaload, 1) := by decide +kernel
theorem dX2_read_26 : decode cX2_read 26 = .ok (.ireturn, 1) := by decide +kernel
abbrev cX2_refusal : ByteArray := prog_3_method_4_code
def yX2_refusal : MethodName := ⟨RX2, "refusal", "(III)I"⟩
theorem dX2_refusal_0 : decode cX2_refusal 0 = .ok (.aload_n 0, 1) := by decide +kernel
theorem dX2_refusal_1 : decode cX2_refusal 1 = .ok (.iload_n 1, 1) := by decide +kernel
theorem dX2_refusal_2 : decode cX2_refusal 2 = .ok (.invokevirtual 23, 3) := by decide +kernel
theorem dX2_refusal_5 : decode cX2_refusal 5 = .ok (.ifCond .ne 5, 3) := by decide +kernel
theorem dX2_refusal_8 : decode cX2_refusal 8 = .ok (.iconst (-1), 1) := by decide +kernel
theorem dX2_refusal_9 : decode cX2_refusal 9 = .ok (.ireturn, 1) := by decide +kernel
theorem dX2_refusal_10 : decode cX2_refusal 10 = .ok (.aload_n 0, 1) := by decide +kernel
theorem dX2_refusal_11 : decode cX2_refusal 11 = .ok (.iload_n 2, 1) := by decide +kernel
theorem dX2_refusal_12 : decode cX2_refusal 12 = .ok (.invokevirtual 27, 3) := by decide +kernel
theorem dX2_refusal_15 : decode cX2_refusal 15 = .ok (.ifCond .eq 11, 3) := by decide +kernel
theorem dX2_refusal_18 : decode cX2_refusal 18 = .ok (.aload_n 0, 1) := by decide +kernel
theorem dX2_refusal_19 : decode cX2_refusal 19 = .ok (.iload_n 3, 1) := by decide +kernel
theorem dX2_refusal_20 : decode cX2_refusal 20 = .ok (.invokevirtual 27, 3) := by decide +kernel
theorem dX2_refusal_23 : decode cX2_refusal 23 = .ok (.ifCond .ne 6, 3) := by decide +kernel
theorem dX2_refusal_26 : decode cX2_refusal 26 = .ok (.bipush (-2), 2) := by decide +kernel
theorem dX2_refusal_28 : decode cX2_refusal 28 = .ok (.ireturn, 1) := by decide +kernel
theorem dX2_refusal_29 : decode cX2_refusal 29 = .ok (.aload_n 0, 1) := by decide +kernel
theorem dX2_refusal_30 : decode cX2_refusal 30 = .ok (.getfield 19, 3) := by decide +kernel
theorem dX2_refusal_33 : decode cX2_refusal 33 = .ok (.iload_n 1, 1) := by decide +kernel
theorem dX2_refusal_34 : decode cX2_refusal 34 = .ok (.baload, 1) := by decide +kernel
theorem dX2_refusal_35 : decode cX2_refusal 35 = .ok (.ifCond .eq 8, 3) := by decide +kernel
theorem dX2_refusal_38 : decode cX2_refusal 38 = .ok (.bipush (-3), 2) := by decide +kernel
theorem dX2_refusal_40 : decode cX2_refusal 40 = .ok (.goto 4, 3) := by decide +kernel
theorem dX2_refusal_43 : decode cX2_refusal 43 = .ok (.iconst 0, 1) := by decide +kernel
theorem dX2_refusal_44 : decode cX2_refusal 44 = .ok (.ireturn, 1) := by decide +kernel
abbrev cX2_isNode : ByteArray := prog_3_method_2_code
def yX2_isNode : MethodName := ⟨RX2, "isNode", "(I)Z"⟩
theorem dX2_isNode_0 : decode cX2_isNode 0 = .ok (.iload_n 1, 1) := by decide +kernel
theorem dX2_isNode_1 : decode cX2_isNode 1 = .ok (.ifCond .lt 12, 3) := by decide +kernel
theorem dX2_isNode_4 : decode cX2_isNode 4 = .ok (.iload_n 1, 1) := by decide +kernel
theorem dX2_isNode_5 : decode cX2_isNode 5 = .ok (.iconst 3, 1) := by decide +kernel
theorem dX2_isNode_6 : decode cX2_isNode 6 = .ok (.if_icmp .ge 7, 3) := by decide +kernel
theorem dX2_isNode_9 : decode cX2_isNode 9 = .ok (.iconst 1, 1) := by decide +kernel
theorem dX2_isNode_10 : decode cX2_isNode 10 = .ok (.goto 4, 3) := by decide +kernel
theorem dX2_isNode_13 : decode cX2_isNode 13 = .ok (.iconst 0, 1) := by decide +kernel
theorem dX2_isNode_14 : decode cX2_isNode 14 = .ok (.ireturn, 1) := by decide +kernel
abbrev cX2_isBlock : ByteArray := prog_3_method_3_code
def yX2_isBlock : MethodName := ⟨RX2, "isBlock", "(I)Z"⟩
theorem dX2_isBlock_0 : decode cX2_isBlock 0 = .ok (.iload_n 1, 1) := by decide +kernel
theorem dX2_isBlock_1 : decode cX2_isBlock 1 = .ok (.ifCond .lt 13, 3) := by decide +kernel
theorem dX2_isBlock_4 : decode cX2_isBlock 4 = .ok (.iload_n 1, 1) := by decide +kernel
theorem dX2_isBlock_5 : decode cX2_isBlock 5 = .ok (.bipush 16, 2) := by decide +kernel
theorem dX2_isBlock_7 : decode cX2_isBlock 7 = .ok (.if_icmp .ge 7, 3) := by decide +kernel
theorem dX2_isBlock_10 : decode cX2_isBlock 10 = .ok (.iconst 1, 1) := by decide +kernel
theorem dX2_isBlock_11 : decode cX2_isBlock 11 = .ok (.goto 4, 3) := by decide +kernel
theorem dX2_isBlock_14 : decode cX2_isBlock 14 = .ok (.iconst 0, 1) := by decide +kernel
theorem dX2_isBlock_15 : decode cX2_isBlock 15 = .ok (.ireturn, 1) := by decide +kernel
abbrev cX2_takeFromOthers : ByteArray := prog_3_method_6_code
def yX2_takeFromOthers : MethodName := ⟨RX2, "takeFromOthers", "(II)V"⟩
theorem dX2_takeFromOthers_0 : decode cX2_takeFromOthers 0 = .ok (.aload_n 0, 1) := by decide +kernel
theorem dX2_takeFromOthers_1 : decode cX2_takeFromOthers 1 = .ok (.getfield 16, 3) := by decide +kernel
theorem dX2_takeFromOthers_4 : decode cX2_takeFromOthers 4 = .ok (.iload_n 2, 1) := by decide +kernel
theorem dX2_takeFromOthers_5 : decode cX2_takeFromOthers 5 = .ok (.iaload, 1) := by decide +kernel
theorem dX2_takeFromOthers_6 : decode cX2_takeFromOthers 6 = .ok (.ifCond .lt 25, 3) := by decide +kernel
theorem dX2_takeFromOthers_9 : decode cX2_takeFromOthers 9 = .ok (.aload_n 0, 1) := by decide +kernel
theorem dX2_takeFromOthers_10 : decode cX2_takeFromOthers 10 = .ok (.getfield 16, 3) := by decide +kernel
theorem dX2_takeFromOthers_13 : decode cX2_takeFromOthers 13 = .ok (.iload_n 2, 1) := by decide +kernel
theorem dX2_takeFromOthers_14 : decode cX2_takeFromOthers 14 = .ok (.iaload, 1) := by decide +kernel
theorem dX2_takeFromOthers_15 : decode cX2_takeFromOthers 15 = .ok (.iload_n 1, 1) := by decide +kernel
theorem dX2_takeFromOthers_16 : decode cX2_takeFromOthers 16 = .ok (.if_icmp .eq 15, 3) := by decide +kernel
theorem dX2_takeFromOthers_19 : decode cX2_takeFromOthers 19 = .ok (.aload_n 0, 1) := by decide +kernel
theorem dX2_takeFromOthers_20 : decode cX2_takeFromOthers 20 = .ok (.aload_n 0, 1) := by decide +kernel
theorem dX2_takeFromOthers_21 : decode cX2_takeFromOthers 21 = .ok (.getfield 16, 3) := by decide +kernel
theorem dX2_takeFromOthers_24 : decode cX2_takeFromOthers 24 = .ok (.iload_n 2, 1) := by decide +kernel
theorem dX2_takeFromOthers_25 : decode cX2_takeFromOthers 25 = .ok (.iaload, 1) := by decide +kernel
theorem dX2_takeFromOthers_26 : decode cX2_takeFromOthers 26 = .ok (.iconst 1, 1) := by decide +kernel
theorem dX2_takeFromOthers_27 : decode cX2_takeFromOthers 27 = .ok (.invokevirtual 30, 3) := by decide +kernel
theorem dX2_takeFromOthers_30 : decode cX2_takeFromOthers 30 = .ok (.pop, 1) := by decide +kernel
theorem dX2_takeFromOthers_31 : decode cX2_takeFromOthers 31 = .ok (.return_, 1) := by decide +kernel
abbrev cX2_settle : ByteArray := prog_3_method_5_code
def yX2_settle : MethodName := ⟨RX2, "settle", "(IZ)I"⟩
theorem dX2_settle_0 : decode cX2_settle 0 = .ok (.iconst 0, 1) := by decide +kernel
theorem dX2_settle_1 : decode cX2_settle 1 = .ok (.istore_n 3, 1) := by decide +kernel
theorem dX2_settle_2 : decode cX2_settle 2 = .ok (.iconst 0, 1) := by decide +kernel
theorem dX2_settle_3 : decode cX2_settle 3 = .ok (.istore 4, 2) := by decide +kernel
theorem dX2_settle_5 : decode cX2_settle 5 = .ok (.iload 4, 2) := by decide +kernel
theorem dX2_settle_7 : decode cX2_settle 7 = .ok (.bipush 16, 2) := by decide +kernel
theorem dX2_settle_9 : decode cX2_settle 9 = .ok (.if_icmp .ge 67, 3) := by decide +kernel
theorem dX2_settle_12 : decode cX2_settle 12 = .ok (.aload_n 0, 1) := by decide +kernel
theorem dX2_settle_13 : decode cX2_settle 13 = .ok (.getfield 16, 3) := by decide +kernel
theorem dX2_settle_16 : decode cX2_settle 16 = .ok (.iload 4, 2) := by decide +kernel
theorem dX2_settle_18 : decode cX2_settle 18 = .ok (.iaload, 1) := by decide +kernel
theorem dX2_settle_19 : decode cX2_settle 19 = .ok (.iload_n 1, 1) := by decide +kernel
theorem dX2_settle_20 : decode cX2_settle 20 = .ok (.if_icmp .ne 50, 3) := by decide +kernel
theorem dX2_settle_23 : decode cX2_settle 23 = .ok (.iload_n 2, 1) := by decide +kernel
theorem dX2_settle_24 : decode cX2_settle 24 = .ok (.ifCond .eq 20, 3) := by decide +kernel
theorem dX2_settle_27 : decode cX2_settle 27 = .ok (.aload_n 0, 1) := by decide +kernel
theorem dX2_settle_28 : decode cX2_settle 28 = .ok (.getfield 13, 3) := by decide +kernel
theorem dX2_settle_31 : decode cX2_settle 31 = .ok (.iload 4, 2) := by decide +kernel
theorem dX2_settle_33 : decode cX2_settle 33 = .ok (.aload_n 0, 1) := by decide +kernel
theorem dX2_settle_34 : decode cX2_settle 34 = .ok (.getfield 7, 3) := by decide +kernel
theorem dX2_settle_37 : decode cX2_settle 37 = .ok (.iload 4, 2) := by decide +kernel
theorem dX2_settle_39 : decode cX2_settle 39 = .ok (.iaload, 1) := by decide +kernel
theorem dX2_settle_40 : decode cX2_settle 40 = .ok (.iastore, 1) := by decide +kernel
theorem dX2_settle_41 : decode cX2_settle 41 = .ok (.goto 17, 3) := by decide +kernel
theorem dX2_settle_44 : decode cX2_settle 44 = .ok (.aload_n 0, 1) := by decide +kernel
theorem dX2_settle_45 : decode cX2_settle 45 = .ok (.getfield 7, 3) := by decide +kernel
theorem dX2_settle_48 : decode cX2_settle 48 = .ok (.iload 4, 2) := by decide +kernel
theorem dX2_settle_50 : decode cX2_settle 50 = .ok (.aload_n 0, 1) := by decide +kernel
theorem dX2_settle_51 : decode cX2_settle 51 = .ok (.getfield 13, 3) := by decide +kernel
theorem dX2_settle_54 : decode cX2_settle 54 = .ok (.iload 4, 2) := by decide +kernel
theorem dX2_settle_56 : decode cX2_settle 56 = .ok (.iaload, 1) := by decide +kernel
theorem dX2_settle_57 : decode cX2_settle 57 = .ok (.iastore, 1) := by decide +kernel
theorem dX2_settle_58 : decode cX2_settle 58 = .ok (.aload_n 0, 1) := by decide +kernel
theorem dX2_settle_59 : decode cX2_settle 59 = .ok (.getfield 16, 3) := by decide +kernel
theorem dX2_settle_62 : decode cX2_settle 62 = .ok (.iload 4, 2) := by decide +kernel
theorem dX2_settle_64 : decode cX2_settle 64 = .ok (.bipush (-4), 2) := by decide +kernel
theorem dX2_settle_66 : decode cX2_settle 66 = .ok (.iastore, 1) := by decide +kernel
theorem dX2_settle_67 : decode cX2_settle 67 = .ok (.iinc 3 1, 3) := by decide +kernel
theorem dX2_settle_70 : decode cX2_settle 70 = .ok (.iinc 4 1, 3) := by decide +kernel
theorem dX2_settle_73 : decode cX2_settle 73 = .ok (.goto (-68), 3) := by decide +kernel
theorem dX2_settle_76 : decode cX2_settle 76 = .ok (.iload_n 3, 1) := by decide +kernel
theorem dX2_settle_77 : decode cX2_settle 77 = .ok (.ireturn, 1) := by decide +kernel
abbrev cX2_write : ByteArray := prog_3_method_8_code
def yX2_write : MethodName := ⟨RX2, "write", "(III)I"⟩
theorem dX2_write_0 : decode cX2_write 0 = .ok (.aload_n 0, 1) := by decide +kernel
theorem dX2_write_1 : decode cX2_write 1 = .ok (.iload_n 1, 1) := by decide +kernel
theorem dX2_write_2 : decode cX2_write 2 = .ok (.iload_n 2, 1) := by decide +kernel
theorem dX2_write_3 : decode cX2_write 3 = .ok (.iload_n 2, 1) := by decide +kernel
theorem dX2_write_4 : decode cX2_write 4 = .ok (.invokevirtual 34, 3) := by decide +kernel
theorem dX2_write_7 : decode cX2_write 7 = .ok (.istore 4, 2) := by decide +kernel
theorem dX2_write_9 : decode cX2_write 9 = .ok (.iload 4, 2) := by decide +kernel
theorem dX2_write_11 : decode cX2_write 11 = .ok (.ifCond .ge 6, 3) := by decide +kernel
theorem dX2_write_14 : decode cX2_write 14 = .ok (.iload 4, 2) := by decide +kernel
theorem dX2_write_16 : decode cX2_write 16 = .ok (.ireturn, 1) := by decide +kernel
theorem dX2_write_17 : decode cX2_write 17 = .ok (.aload_n 0, 1) := by decide +kernel
theorem dX2_write_18 : decode cX2_write 18 = .ok (.iload_n 1, 1) := by decide +kernel
theorem dX2_write_19 : decode cX2_write 19 = .ok (.iload_n 2, 1) := by decide +kernel
theorem dX2_write_20 : decode cX2_write 20 = .ok (.invokevirtual 38, 3) := by decide +kernel
theorem dX2_write_23 : decode cX2_write 23 = .ok (.aload_n 0, 1) := by decide +kernel
theorem dX2_write_24 : decode cX2_write 24 = .ok (.getfield 7, 3) := by decide +kernel
theorem dX2_write_27 : decode cX2_write 27 = .ok (.iload_n 2, 1) := by decide +kernel
theorem dX2_write_28 : decode cX2_write 28 = .ok (.iload_n 3, 1) := by decide +kernel
theorem dX2_write_29 : decode cX2_write 29 = .ok (.iastore, 1) := by decide +kernel
theorem dX2_write_30 : decode cX2_write 30 = .ok (.aload_n 0, 1) := by decide +kernel
theorem dX2_write_31 : decode cX2_write 31 = .ok (.getfield 16, 3) := by decide +kernel
theorem dX2_write_34 : decode cX2_write 34 = .ok (.iload_n 2, 1) := by decide +kernel
theorem dX2_write_35 : decode cX2_write 35 = .ok (.iload_n 1, 1) := by decide +kernel
theorem dX2_write_36 : decode cX2_write 36 = .ok (.iastore, 1) := by decide +kernel
theorem dX2_write_37 : decode cX2_write 37 = .ok (.aload_n 0, 1) := by decide +kernel
theorem dX2_write_38 : decode cX2_write 38 = .ok (.iload_n 1, 1) := by decide +kernel
theorem dX2_write_39 : decode cX2_write 39 = .ok (.invokevirtual 42, 3) := by decide +kernel
theorem dX2_write_42 : decode cX2_write 42 = .ok (.ireturn, 1) := by decide +kernel
abbrev cX2_unsafe : ByteArray := prog_3_method_18_code
def yX2_unsafe : MethodName := ⟨RX2, nmU, "(I)I"⟩
theorem dX2_unsafe_0 : decode cX2_unsafe 0 = .ok (.aload_n 0, 1) := by decide +kernel
theorem dX2_unsafe_1 : decode cX2_unsafe 1 = .ok (.iload_n 1, 1) := by decide +kernel
theorem dX2_unsafe_2 : decode cX2_unsafe 2 = .ok (.invokevirtual 23, 3) := by decide +kernel
theorem dX2_unsafe_5 : decode cX2_unsafe 5 = .ok (.ifCond .ne 5, 3) := by decide +kernel
theorem dX2_unsafe_8 : decode cX2_unsafe 8 = .ok (.iconst (-1), 1) := by decide +kernel
theorem dX2_unsafe_9 : decode cX2_unsafe 9 = .ok (.ireturn, 1) := by decide +kernel
theorem dX2_unsafe_10 : decode cX2_unsafe 10 = .ok (.iconst 0, 1) := by decide +kernel
theorem dX2_unsafe_11 : decode cX2_unsafe 11 = .ok (.istore_n 2, 1) := by decide +kernel
theorem dX2_unsafe_12 : decode cX2_unsafe 12 = .ok (.iconst 0, 1) := by decide +kernel
theorem dX2_unsafe_13 : decode cX2_unsafe 13 = .ok (.istore_n 3, 1) := by decide +kernel
theorem dX2_unsafe_14 : decode cX2_unsafe 14 = .ok (.iload_n 3, 1) := by decide +kernel
theorem dX2_unsafe_15 : decode cX2_unsafe 15 = .ok (.bipush 16, 2) := by decide +kernel
theorem dX2_unsafe_17 : decode cX2_unsafe 17 = .ok (.if_icmp .ge 22, 3) := by decide +kernel
theorem dX2_unsafe_20 : decode cX2_unsafe 20 = .ok (.aload_n 0, 1) := by decide +kernel
theorem dX2_unsafe_21 : decode cX2_unsafe 21 = .ok (.getfield 16, 3) := by decide +kernel
theorem dX2_unsafe_24 : decode cX2_unsafe 24 = .ok (.iload_n 3, 1) := by decide +kernel
theorem dX2_unsafe_25 : decode cX2_unsafe 25 = .ok (.iaload, 1) := by decide +kernel
theorem dX2_unsafe_26 : decode cX2_unsafe 26 = .ok (.iload_n 1, 1) := by decide +kernel
theorem dX2_unsafe_27 : decode cX2_unsafe 27 = .ok (.if_icmp .ne 6, 3) := by decide +kernel
theorem dX2_unsafe_30 : decode cX2_unsafe 30 = .ok (.iinc 2 1, 3) := by decide +kernel
theorem dX2_unsafe_33 : decode cX2_unsafe 33 = .ok (.iinc 3 1, 3) := by decide +kernel
theorem dX2_unsafe_36 : decode cX2_unsafe 36 = .ok (.goto (-22), 3) := by decide +kernel
theorem dX2_unsafe_39 : decode cX2_unsafe 39 = .ok (.iload_n 2, 1) := by decide +kernel
theorem dX2_unsafe_40 : decode cX2_unsafe 40 = .ok (.ireturn, 1) := by decide +kernel
abbrev cX2_swap : ByteArray := prog_3_method_9_code
def yX2_swap : MethodName := ⟨RX2, "swap", "(III)I"⟩
theorem dX2_swap_0 : decode cX2_swap 0 = .ok (.aload_n 0, 1) := by decide +kernel
theorem dX2_swap_1 : decode cX2_swap 1 = .ok (.iload_n 1, 1) := by decide +kernel
theorem dX2_swap_2 : decode cX2_swap 2 = .ok (.iload_n 2, 1) := by decide +kernel
theorem dX2_swap_3 : decode cX2_swap 3 = .ok (.iload_n 3, 1) := by decide +kernel
theorem dX2_swap_4 : decode cX2_swap 4 = .ok (.invokevirtual 34, 3) := by decide +kernel
theorem dX2_swap_7 : decode cX2_swap 7 = .ok (.istore 4, 2) := by decide +kernel
theorem dX2_swap_9 : decode cX2_swap 9 = .ok (.iload 4, 2) := by decide +kernel
theorem dX2_swap_11 : decode cX2_swap 11 = .ok (.ifCond .ge 6, 3) := by decide +kernel
theorem dX2_swap_14 : decode cX2_swap 14 = .ok (.iload 4, 2) := by decide +kernel
theorem dX2_swap_16 : decode cX2_swap 16 = .ok (.ireturn, 1) := by decide +kernel
theorem dX2_swap_17 : decode cX2_swap 17 = .ok (.aload_n 0, 1) := by decide +kernel
theorem dX2_swap_18 : decode cX2_swap 18 = .ok (.iload_n 1, 1) := by decide +kernel
theorem dX2_swap_19 : decode cX2_swap 19 = .ok (.iload_n 2, 1) := by decide +kernel
theorem dX2_swap_20 : decode cX2_swap 20 = .ok (.invokevirtual 46, 3) := by decide +kernel
theorem dX2_swap_23 : decode cX2_swap 23 = .ok (.istore 5, 2) := by decide +kernel
theorem dX2_swap_25 : decode cX2_swap 25 = .ok (.aload_n 0, 1) := by decide +kernel
theorem dX2_swap_26 : decode cX2_swap 26 = .ok (.iload_n 1, 1) := by decide +kernel
theorem dX2_swap_27 : decode cX2_swap 27 = .ok (.iload_n 3, 1) := by decide +kernel
theorem dX2_swap_28 : decode cX2_swap 28 = .ok (.invokevirtual 46, 3) := by decide +kernel
theorem dX2_swap_31 : decode cX2_swap 31 = .ok (.istore 6, 2) := by decide +kernel
theorem dX2_swap_33 : decode cX2_swap 33 = .ok (.aload_n 0, 1) := by decide +kernel
theorem dX2_swap_34 : decode cX2_swap 34 = .ok (.iload_n 1, 1) := by decide +kernel
theorem dX2_swap_35 : decode cX2_swap 35 = .ok (.iload_n 2, 1) := by decide +kernel
theorem dX2_swap_36 : decode cX2_swap 36 = .ok (.iload 6, 2) := by decide +kernel
theorem dX2_swap_38 : decode cX2_swap 38 = .ok (.invokevirtual 50, 3) := by decide +kernel
theorem dX2_swap_41 : decode cX2_swap 41 = .ok (.pop, 1) := by decide +kernel
theorem dX2_swap_42 : decode cX2_swap 42 = .ok (.aload_n 0, 1) := by decide +kernel
theorem dX2_swap_43 : decode cX2_swap 43 = .ok (.iload_n 1, 1) := by decide +kernel
theorem dX2_swap_44 : decode cX2_swap 44 = .ok (.iload_n 3, 1) := by decide +kernel
theorem dX2_swap_45 : decode cX2_swap 45 = .ok (.iload 5, 2) := by decide +kernel
theorem dX2_swap_47 : decode cX2_swap 47 = .ok (.invokevirtual 50, 3) := by decide +kernel
theorem dX2_swap_50 : decode cX2_swap 50 = .ok (.ireturn, 1) := by decide +kernel
abbrev cX2_sync : ByteArray := prog_3_method_10_code
def yX2_sync : MethodName := ⟨RX2, "sync", "(I)I"⟩
theorem dX2_sync_0 : decode cX2_sync 0 = .ok (.aload_n 0, 1) := by decide +kernel
theorem dX2_sync_1 : decode cX2_sync 1 = .ok (.iload_n 1, 1) := by decide +kernel
theorem dX2_sync_2 : decode cX2_sync 2 = .ok (.iconst 0, 1) := by decide +kernel
theorem dX2_sync_3 : decode cX2_sync 3 = .ok (.iconst 0, 1) := by decide +kernel
theorem dX2_sync_4 : decode cX2_sync 4 = .ok (.invokevirtual 34, 3) := by decide +kernel
theorem dX2_sync_7 : decode cX2_sync 7 = .ok (.istore_n 2, 1) := by decide +kernel
theorem dX2_sync_8 : decode cX2_sync 8 = .ok (.iload_n 2, 1) := by decide +kernel
theorem dX2_sync_9 : decode cX2_sync 9 = .ok (.ifCond .ge 7, 3) := by decide +kernel
theorem dX2_sync_12 : decode cX2_sync 12 = .ok (.iload_n 2, 1) := by decide +kernel
theorem dX2_sync_13 : decode cX2_sync 13 = .ok (.goto 9, 3) := by decide +kernel
theorem dX2_sync_16 : decode cX2_sync 16 = .ok (.aload_n 0, 1) := by decide +kernel
theorem dX2_sync_17 : decode cX2_sync 17 = .ok (.iload_n 1, 1) := by decide +kernel
theorem dX2_sync_18 : decode cX2_sync 18 = .ok (.iconst 1, 1) := by decide +kernel
theorem dX2_sync_19 : decode cX2_sync 19 = .ok (.invokevirtual 30, 3) := by decide +kernel
theorem dX2_sync_22 : decode cX2_sync 22 = .ok (.ireturn, 1) := by decide +kernel
abbrev cX2_crash : ByteArray := prog_3_method_11_code
def yX2_crash : MethodName := ⟨RX2, "crash", "(I)I"⟩
theorem dX2_crash_0 : decode cX2_crash 0 = .ok (.aload_n 0, 1) := by decide +kernel
theorem dX2_crash_1 : decode cX2_crash 1 = .ok (.iload_n 1, 1) := by decide +kernel
theorem dX2_crash_2 : decode cX2_crash 2 = .ok (.iconst 0, 1) := by decide +kernel
theorem dX2_crash_3 : decode cX2_crash 3 = .ok (.invokevirtual 53, 3) := by decide +kernel
theorem dX2_crash_6 : decode cX2_crash 6 = .ok (.ireturn, 1) := by decide +kernel
abbrev cX2_crashInSync : ByteArray := prog_3_method_12_code
def yX2_crashInSync : MethodName := ⟨RX2, "crashInSync", "(IZ)I"⟩
theorem dX2_crashInSync_0 : decode cX2_crashInSync 0 = .ok (.aload_n 0, 1) := by decide +kernel
theorem dX2_crashInSync_1 : decode cX2_crashInSync 1 = .ok (.iload_n 1, 1) := by decide +kernel
theorem dX2_crashInSync_2 : decode cX2_crashInSync 2 = .ok (.iconst 0, 1) := by decide +kernel
theorem dX2_crashInSync_3 : decode cX2_crashInSync 3 = .ok (.iconst 0, 1) := by decide +kernel
theorem dX2_crashInSync_4 : decode cX2_crashInSync 4 = .ok (.invokevirtual 34, 3) := by decide +kernel
theorem dX2_crashInSync_7 : decode cX2_crashInSync 7 = .ok (.istore_n 3, 1) := by decide +kernel
theorem dX2_crashInSync_8 : decode cX2_crashInSync 8 = .ok (.iload_n 3, 1) := by decide +kernel
theorem dX2_crashInSync_9 : decode cX2_crashInSync 9 = .ok (.ifCond .ge 5, 3) := by decide +kernel
theorem dX2_crashInSync_12 : decode cX2_crashInSync 12 = .ok (.iload_n 3, 1) := by decide +kernel
theorem dX2_crashInSync_13 : decode cX2_crashInSync 13 = .ok (.ireturn, 1) := by decide +kernel
theorem dX2_crashInSync_14 : decode cX2_crashInSync 14 = .ok (.aload_n 0, 1) := by decide +kernel
theorem dX2_crashInSync_15 : decode cX2_crashInSync 15 = .ok (.getfield 19, 3) := by decide +kernel
theorem dX2_crashInSync_18 : decode cX2_crashInSync 18 = .ok (.iload_n 1, 1) := by decide +kernel
theorem dX2_crashInSync_19 : decode cX2_crashInSync 19 = .ok (.iconst 1, 1) := by decide +kernel
theorem dX2_crashInSync_20 : decode cX2_crashInSync 20 = .ok (.bastore, 1) := by decide +kernel
theorem dX2_crashInSync_21 : decode cX2_crashInSync 21 = .ok (.aload_n 0, 1) := by decide +kernel
theorem dX2_crashInSync_22 : decode cX2_crashInSync 22 = .ok (.iload_n 1, 1) := by decide +kernel
theorem dX2_crashInSync_23 : decode cX2_crashInSync 23 = .ok (.iload_n 2, 1) := by decide +kernel
theorem dX2_crashInSync_24 : decode cX2_crashInSync 24 = .ok (.invokevirtual 30, 3) := by decide +kernel
theorem dX2_crashInSync_27 : decode cX2_crashInSync 27 = .ok (.ireturn, 1) := by decide +kernel
abbrev cX2_restart : ByteArray := prog_3_method_13_code
def yX2_restart : MethodName := ⟨RX2, "restart", "(I)I"⟩
theorem dX2_restart_0 : decode cX2_restart 0 = .ok (.aload_n 0, 1) := by decide +kernel
theorem dX2_restart_1 : decode cX2_restart 1 = .ok (.iload_n 1, 1) := by decide +kernel
theorem dX2_restart_2 : decode cX2_restart 2 = .ok (.invokevirtual 23, 3) := by decide +kernel
theorem dX2_restart_5 : decode cX2_restart 5 = .ok (.ifCond .ne 5, 3) := by decide +kernel
theorem dX2_restart_8 : decode cX2_restart 8 = .ok (.iconst (-1), 1) := by decide +kernel
theorem dX2_restart_9 : decode cX2_restart 9 = .ok (.ireturn, 1) := by decide +kernel
theorem dX2_restart_10 : decode cX2_restart 10 = .ok (.aload_n 0, 1) := by decide +kernel
theorem dX2_restart_11 : decode cX2_restart 11 = .ok (.getfield 19, 3) := by decide +kernel
theorem dX2_restart_14 : decode cX2_restart 14 = .ok (.iload_n 1, 1) := by decide +kernel
theorem dX2_restart_15 : decode cX2_restart 15 = .ok (.baload, 1) := by decide +kernel
theorem dX2_restart_16 : decode cX2_restart 16 = .ok (.ifCond .eq 7, 3) := by decide +kernel
theorem dX2_restart_19 : decode cX2_restart 19 = .ok (.iconst 1, 1) := by decide +kernel
theorem dX2_restart_20 : decode cX2_restart 20 = .ok (.goto 4, 3) := by decide +kernel
theorem dX2_restart_23 : decode cX2_restart 23 = .ok (.iconst 0, 1) := by decide +kernel
theorem dX2_restart_24 : decode cX2_restart 24 = .ok (.istore_n 2, 1) := by decide +kernel
theorem dX2_restart_25 : decode cX2_restart 25 = .ok (.aload_n 0, 1) := by decide +kernel
theorem dX2_restart_26 : decode cX2_restart 26 = .ok (.getfield 19, 3) := by decide +kernel
theorem dX2_restart_29 : decode cX2_restart 29 = .ok (.iload_n 1, 1) := by decide +kernel
theorem dX2_restart_30 : decode cX2_restart 30 = .ok (.iconst 0, 1) := by decide +kernel
theorem dX2_restart_31 : decode cX2_restart 31 = .ok (.bastore, 1) := by decide +kernel
theorem dX2_restart_32 : decode cX2_restart 32 = .ok (.iload_n 2, 1) := by decide +kernel
theorem dX2_restart_33 : decode cX2_restart 33 = .ok (.ireturn, 1) := by decide +kernel
abbrev cX2_powerCut : ByteArray := prog_3_method_14_code
def yX2_powerCut : MethodName := ⟨RX2, "powerCut", "()I"⟩
theorem dX2_powerCut_0 : decode cX2_powerCut 0 = .ok (.iconst 0, 1) := by decide +kernel
theorem dX2_powerCut_1 : decode cX2_powerCut 1 = .ok (.istore_n 1, 1) := by decide +kernel
theorem dX2_powerCut_2 : decode cX2_powerCut 2 = .ok (.iconst 0, 1) := by decide +kernel
theorem dX2_powerCut_3 : decode cX2_powerCut 3 = .ok (.istore_n 2, 1) := by decide +kernel
theorem dX2_powerCut_4 : decode cX2_powerCut 4 = .ok (.iload_n 2, 1) := by decide +kernel
theorem dX2_powerCut_5 : decode cX2_powerCut 5 = .ok (.iconst 3, 1) := by decide +kernel
theorem dX2_powerCut_6 : decode cX2_powerCut 6 = .ok (.if_icmp .ge 25, 3) := by decide +kernel
theorem dX2_powerCut_9 : decode cX2_powerCut 9 = .ok (.iload_n 1, 1) := by decide +kernel
theorem dX2_powerCut_10 : decode cX2_powerCut 10 = .ok (.aload_n 0, 1) := by decide +kernel
theorem dX2_powerCut_11 : decode cX2_powerCut 11 = .ok (.iload_n 2, 1) := by decide +kernel
theorem dX2_powerCut_12 : decode cX2_powerCut 12 = .ok (.iconst 0, 1) := by decide +kernel
theorem dX2_powerCut_13 : decode cX2_powerCut 13 = .ok (.invokevirtual 30, 3) := by decide +kernel
theorem dX2_powerCut_16 : decode cX2_powerCut 16 = .ok (.iadd, 1) := by decide +kernel
theorem dX2_powerCut_17 : decode cX2_powerCut 17 = .ok (.istore_n 1, 1) := by decide +kernel
theorem dX2_powerCut_18 : decode cX2_powerCut 18 = .ok (.aload_n 0, 1) := by decide +kernel
theorem dX2_powerCut_19 : decode cX2_powerCut 19 = .ok (.getfield 19, 3) := by decide +kernel
theorem dX2_powerCut_22 : decode cX2_powerCut 22 = .ok (.iload_n 2, 1) := by decide +kernel
theorem dX2_powerCut_23 : decode cX2_powerCut 23 = .ok (.iconst 0, 1) := by decide +kernel
theorem dX2_powerCut_24 : decode cX2_powerCut 24 = .ok (.bastore, 1) := by decide +kernel
theorem dX2_powerCut_25 : decode cX2_powerCut 25 = .ok (.iinc 2 1, 3) := by decide +kernel
theorem dX2_powerCut_28 : decode cX2_powerCut 28 = .ok (.goto (-24), 3) := by decide +kernel
theorem dX2_powerCut_31 : decode cX2_powerCut 31 = .ok (.iload_n 1, 1) := by decide +kernel
theorem dX2_powerCut_32 : decode cX2_powerCut 32 = .ok (.ireturn, 1) := by decide +kernel
abbrev cX2_content : ByteArray := prog_3_method_15_code
def yX2_content : MethodName := ⟨RX2, "content", "(I)I"⟩
theorem dX2_content_0 : decode cX2_content 0 = .ok (.aload_n 0, 1) := by decide +kernel
theorem dX2_content_1 : decode cX2_content 1 = .ok (.iload_n 1, 1) := by decide +kernel
theorem dX2_content_2 : decode cX2_content 2 = .ok (.invokevirtual 27, 3) := by decide +kernel
theorem dX2_content_5 : decode cX2_content 5 = .ok (.ifCond .eq 12, 3) := by decide +kernel
theorem dX2_content_8 : decode cX2_content 8 = .ok (.aload_n 0, 1) := by decide +kernel
theorem dX2_content_9 : decode cX2_content 9 = .ok (.getfield 7, 3) := by decide +kernel
theorem dX2_content_12 : decode cX2_content 12 = .ok (.iload_n 1, 1) := by decide +kernel
theorem dX2_content_13 : decode cX2_content 13 = .ok (.iaload, 1) := by decide +kernel
theorem dX2_content_14 : decode cX2_content 14 = .ok (.goto 5, 3) := by decide +kernel
theorem dX2_content_17 : decode cX2_content 17 = .ok (.bipush (-2), 2) := by decide +kernel
theorem dX2_content_19 : decode cX2_content 19 = .ok (.ireturn, 1) := by decide +kernel
abbrev cX2_safe : ByteArray := prog_3_method_16_code
def yX2_safe : MethodName := ⟨RX2, "safe", "(I)I"⟩
theorem dX2_safe_0 : decode cX2_safe 0 = .ok (.aload_n 0, 1) := by decide +kernel
theorem dX2_safe_1 : decode cX2_safe 1 = .ok (.iload_n 1, 1) := by decide +kernel
theorem dX2_safe_2 : decode cX2_safe 2 = .ok (.invokevirtual 27, 3) := by decide +kernel
theorem dX2_safe_5 : decode cX2_safe 5 = .ok (.ifCond .eq 12, 3) := by decide +kernel
theorem dX2_safe_8 : decode cX2_safe 8 = .ok (.aload_n 0, 1) := by decide +kernel
theorem dX2_safe_9 : decode cX2_safe 9 = .ok (.getfield 13, 3) := by decide +kernel
theorem dX2_safe_12 : decode cX2_safe 12 = .ok (.iload_n 1, 1) := by decide +kernel
theorem dX2_safe_13 : decode cX2_safe 13 = .ok (.iaload, 1) := by decide +kernel
theorem dX2_safe_14 : decode cX2_safe 14 = .ok (.goto 5, 3) := by decide +kernel
theorem dX2_safe_17 : decode cX2_safe 17 = .ok (.bipush (-2), 2) := by decide +kernel
theorem dX2_safe_19 : decode cX2_safe 19 = .ok (.ireturn, 1) := by decide +kernel
abbrev cX2_owner : ByteArray := prog_3_method_17_code
def yX2_owner : MethodName := ⟨RX2, "owner", "(I)I"⟩
theorem dX2_owner_0 : decode cX2_owner 0 = .ok (.aload_n 0, 1) := by decide +kernel
theorem dX2_owner_1 : decode cX2_owner 1 = .ok (.iload_n 1, 1) := by decide +kernel
theorem dX2_owner_2 : decode cX2_owner 2 = .ok (.invokevirtual 27, 3) := by decide +kernel
theorem dX2_owner_5 : decode cX2_owner 5 = .ok (.ifCond .eq 12, 3) := by decide +kernel
theorem dX2_owner_8 : decode cX2_owner 8 = .ok (.aload_n 0, 1) := by decide +kernel
theorem dX2_owner_9 : decode cX2_owner 9 = .ok (.getfield 16, 3) := by decide +kernel
theorem dX2_owner_12 : decode cX2_owner 12 = .ok (.iload_n 1, 1) := by decide +kernel
theorem dX2_owner_13 : decode cX2_owner 13 = .ok (.iaload, 1) := by decide +kernel
theorem dX2_owner_14 : decode cX2_owner 14 = .ok (.goto 5, 3) := by decide +kernel
theorem dX2_owner_17 : decode cX2_owner 17 = .ok (.bipush (-2), 2) := by decide +kernel
theorem dX2_owner_19 : decode cX2_owner 19 = .ok (.ireturn, 1) := by decide +kernel
abbrev cX2_up : ByteArray := prog_3_method_19_code
def yX2_up : MethodName := ⟨RX2, "up", "(I)Z"⟩
theorem dX2_up_0 : decode cX2_up 0 = .ok (.aload_n 0, 1) := by decide +kernel
theorem dX2_up_1 : decode cX2_up 1 = .ok (.iload_n 1, 1) := by decide +kernel
theorem dX2_up_2 : decode cX2_up 2 = .ok (.invokevirtual 23, 3) := by decide +kernel
theorem dX2_up_5 : decode cX2_up 5 = .ok (.ifCond .eq 16, 3) := by decide +kernel
theorem dX2_up_8 : decode cX2_up 8 = .ok (.aload_n 0, 1) := by decide +kernel
theorem dX2_up_9 : decode cX2_up 9 = .ok (.getfield 19, 3) := by decide +kernel
theorem dX2_up_12 : decode cX2_up 12 = .ok (.iload_n 1, 1) := by decide +kernel
theorem dX2_up_13 : decode cX2_up 13 = .ok (.baload, 1) := by decide +kernel
theorem dX2_up_14 : decode cX2_up 14 = .ok (.ifCond .ne 7, 3) := by decide +kernel
theorem dX2_up_17 : decode cX2_up 17 = .ok (.iconst 1, 1) := by decide +kernel
theorem dX2_up_18 : decode cX2_up 18 = .ok (.goto 4, 3) := by decide +kernel
theorem dX2_up_21 : decode cX2_up 21 = .ok (.iconst 0, 1) := by decide +kernel
theorem dX2_up_22 : decode cX2_up 22 = .ok (.ireturn, 1) := by decide +kernel
theorem q29 : (Jvm.Cond.initialized "SharedDiskFsModel") ∈ lw_all := lw_g (lw_at lw_m1 2 rfl) rfl
theorem q230 : (Jvm.Cond.instantiable "SharedDiskFsModel" (4 : Nat)) ∈ lw_all := lw_g (lw_at lw_m1 203 rfl) rfl
theorem q232 : (Jvm.Cond.instanceMethod ({ cls := "SharedDiskFsModel", name := "<init>", desc := "(I)V" } : Jvm.MethodName)) ∈ lw_all := lw_g (lw_at lw_m1 205 rfl) rfl
theorem q233 : (Jvm.Cond.code ({ cls := "SharedDiskFsModel", name := "<init>", desc := "(I)V" } : Jvm.MethodName) prog_3_method_1_code (3 : Nat) (Option.none : Option Jvm.ClassFile.FieldType)) ∈ lw_all := lw_g (lw_at lw_m1 206 rfl) rfl
theorem q234 : (Jvm.Cond.methodLink "SharedDiskFsModel" (1 : Nat) ({ cls := "java/lang/Object", name := "<init>", desc := "()V" } : Jvm.MethodName)) ∈ lw_all := lw_g (lw_at lw_m1 207 rfl) rfl
theorem q235 : (Jvm.Cond.fieldLink "SharedDiskFsModel" (7 : Nat) "SharedDiskFsModel" "contents" "[I") ∈ lw_all := lw_g (lw_at lw_m1 208 rfl) rfl
theorem q236 : (Jvm.Cond.fieldLink "SharedDiskFsModel" (13 : Nat) "SharedDiskFsModel" "safes" "[I") ∈ lw_all := lw_g (lw_at lw_m1 209 rfl) rfl
theorem q237 : (Jvm.Cond.fieldLink "SharedDiskFsModel" (16 : Nat) "SharedDiskFsModel" "owners" "[I") ∈ lw_all := lw_g (lw_at lw_m1 210 rfl) rfl
theorem q238 : (Jvm.Cond.fieldLink "SharedDiskFsModel" (19 : Nat) "SharedDiskFsModel" "down" "[Z") ∈ lw_all := lw_g (lw_at lw_m1 211 rfl) rfl
theorem q239 : (Jvm.Cond.laysFinal "SharedDiskFsModel" "SharedDiskFsModel" "contents" "[I") ∈ lw_all := lw_g (lw_at lw_m1 212 rfl) rfl
theorem q240 : (Jvm.Cond.soleField "SharedDiskFsModel" "contents") ∈ lw_all := lw_g (lw_at lw_m1 213 rfl) rfl
theorem q241 : (Jvm.Cond.laysFinal "SharedDiskFsModel" "SharedDiskFsModel" "safes" "[I") ∈ lw_all := lw_g (lw_at lw_m1 214 rfl) rfl
theorem q242 : (Jvm.Cond.soleField "SharedDiskFsModel" "safes") ∈ lw_all := lw_g (lw_at lw_m1 215 rfl) rfl
theorem q243 : (Jvm.Cond.laysFinal "SharedDiskFsModel" "SharedDiskFsModel" "owners" "[I") ∈ lw_all := lw_g (lw_at lw_m1 216 rfl) rfl
theorem q244 : (Jvm.Cond.soleField "SharedDiskFsModel" "owners") ∈ lw_all := lw_g (lw_at lw_m1 217 rfl) rfl
theorem q245 : (Jvm.Cond.laysFinal "SharedDiskFsModel" "SharedDiskFsModel" "down" "[Z") ∈ lw_all := lw_g (lw_at lw_m1 218 rfl) rfl
theorem q246 : (Jvm.Cond.soleField "SharedDiskFsModel" "down") ∈ lw_all := lw_g (lw_at lw_m1 219 rfl) rfl
theorem q247 : (Jvm.Cond.superclass "SharedDiskFsModel" "java/lang/Object") ∈ lw_all := lw_g (lw_at lw_m1 220 rfl) rfl
theorem q249 : (Jvm.Cond.instanceMethod ({ cls := "SharedDiskFsModel", name := "read", desc := "(II)I" } : Jvm.MethodName)) ∈ lw_all := lw_g (lw_at lw_m1 222 rfl) rfl
theorem q250 : (Jvm.Cond.selects "SharedDiskFsModel" ({ cls := "SharedDiskFsModel", name := "read", desc := "(II)I" } : Jvm.MethodName) ({ cls := "SharedDiskFsModel", name := "read", desc := "(II)I" } : Jvm.MethodName)) ∈ lw_all := lw_g (lw_at lw_m1 223 rfl) rfl
theorem q251 : (Jvm.Cond.code ({ cls := "SharedDiskFsModel", name := "read", desc := "(II)I" } : Jvm.MethodName) prog_3_method_7_code (4 : Nat) (Option.some Jvm.ClassFile.FieldType.int)) ∈ lw_all := lw_g (lw_at lw_m1 224 rfl) rfl
theorem q252 : (Jvm.Cond.methodLink "SharedDiskFsModel" (34 : Nat) ({ cls := "SharedDiskFsModel", name := "refusal", desc := "(III)I" } : Jvm.MethodName)) ∈ lw_all := lw_g (lw_at lw_m1 225 rfl) rfl
theorem q253 : (Jvm.Cond.privateMethod ({ cls := "SharedDiskFsModel", name := "refusal", desc := "(III)I" } : Jvm.MethodName)) ∈ lw_tbl := lw_at lw_m1 226 rfl
theorem q254 : (Jvm.Cond.instanceMethod ({ cls := "SharedDiskFsModel", name := "refusal", desc := "(III)I" } : Jvm.MethodName)) ∈ lw_all := lw_g (lw_at lw_m1 227 rfl) rfl
theorem q255 : (Jvm.Cond.code ({ cls := "SharedDiskFsModel", name := "refusal", desc := "(III)I" } : Jvm.MethodName) prog_3_method_4_code (4 : Nat) (Option.some Jvm.ClassFile.FieldType.int)) ∈ lw_all := lw_g (lw_at lw_m1 228 rfl) rfl
theorem q256 : (Jvm.Cond.methodLink "SharedDiskFsModel" (23 : Nat) ({ cls := "SharedDiskFsModel", name := "isNode", desc := "(I)Z" } : Jvm.MethodName)) ∈ lw_all := lw_g (lw_at lw_m1 229 rfl) rfl
theorem q257 : (Jvm.Cond.privateMethod ({ cls := "SharedDiskFsModel", name := "isNode", desc := "(I)Z" } : Jvm.MethodName)) ∈ lw_tbl := lw_at lw_m1 230 rfl
theorem q258 : (Jvm.Cond.instanceMethod ({ cls := "SharedDiskFsModel", name := "isNode", desc := "(I)Z" } : Jvm.MethodName)) ∈ lw_all := lw_g (lw_at lw_m1 231 rfl) rfl
theorem q259 : (Jvm.Cond.code ({ cls := "SharedDiskFsModel", name := "isNode", desc := "(I)Z" } : Jvm.MethodName) prog_3_method_2_code (2 : Nat) (Option.some Jvm.ClassFile.FieldType.boolean)) ∈ lw_all := lw_g (lw_at lw_m1 232 rfl) rfl
theorem q260 : (Jvm.Cond.methodLink "SharedDiskFsModel" (27 : Nat) ({ cls := "SharedDiskFsModel", name := "isBlock", desc := "(I)Z" } : Jvm.MethodName)) ∈ lw_all := lw_g (lw_at lw_m1 233 rfl) rfl
theorem q261 : (Jvm.Cond.privateMethod ({ cls := "SharedDiskFsModel", name := "isBlock", desc := "(I)Z" } : Jvm.MethodName)) ∈ lw_tbl := lw_at lw_m1 234 rfl
theorem q262 : (Jvm.Cond.instanceMethod ({ cls := "SharedDiskFsModel", name := "isBlock", desc := "(I)Z" } : Jvm.MethodName)) ∈ lw_all := lw_g (lw_at lw_m1 235 rfl) rfl
theorem q263 : (Jvm.Cond.code ({ cls := "SharedDiskFsModel", name := "isBlock", desc := "(I)Z" } : Jvm.MethodName) prog_3_method_3_code (2 : Nat) (Option.some Jvm.ClassFile.FieldType.boolean)) ∈ lw_all := lw_g (lw_at lw_m1 236 rfl) rfl
theorem q264 : (Jvm.Cond.methodLink "SharedDiskFsModel" (38 : Nat) ({ cls := "SharedDiskFsModel", name := "takeFromOthers", desc := "(II)V" } : Jvm.MethodName)) ∈ lw_all := lw_g (lw_at lw_m1 237 rfl) rfl
theorem q265 : (Jvm.Cond.privateMethod ({ cls := "SharedDiskFsModel", name := "takeFromOthers", desc := "(II)V" } : Jvm.MethodName)) ∈ lw_tbl := lw_at lw_m1 238 rfl
theorem q266 : (Jvm.Cond.instanceMethod ({ cls := "SharedDiskFsModel", name := "takeFromOthers", desc := "(II)V" } : Jvm.MethodName)) ∈ lw_all := lw_g (lw_at lw_m1 239 rfl) rfl
theorem q267 : (Jvm.Cond.code ({ cls := "SharedDiskFsModel", name := "takeFromOthers", desc := "(II)V" } : Jvm.MethodName) prog_3_method_6_code (3 : Nat) (Option.none : Option Jvm.ClassFile.FieldType)) ∈ lw_all := lw_g (lw_at lw_m2 0 rfl) rfl
theorem q268 : (Jvm.Cond.methodLink "SharedDiskFsModel" (30 : Nat) ({ cls := "SharedDiskFsModel", name := "settle", desc := "(IZ)I" } : Jvm.MethodName)) ∈ lw_all := lw_g (lw_at lw_m2 1 rfl) rfl
theorem q269 : (Jvm.Cond.privateMethod ({ cls := "SharedDiskFsModel", name := "settle", desc := "(IZ)I" } : Jvm.MethodName)) ∈ lw_tbl := lw_at lw_m2 2 rfl
theorem q270 : (Jvm.Cond.instanceMethod ({ cls := "SharedDiskFsModel", name := "settle", desc := "(IZ)I" } : Jvm.MethodName)) ∈ lw_all := lw_g (lw_at lw_m2 3 rfl) rfl
theorem q271 : (Jvm.Cond.code ({ cls := "SharedDiskFsModel", name := "settle", desc := "(IZ)I" } : Jvm.MethodName) prog_3_method_5_code (5 : Nat) (Option.some Jvm.ClassFile.FieldType.int)) ∈ lw_all := lw_g (lw_at lw_m2 4 rfl) rfl
theorem q273 : (Jvm.Cond.instanceMethod ({ cls := "SharedDiskFsModel", name := "write", desc := "(III)I" } : Jvm.MethodName)) ∈ lw_all := lw_g (lw_at lw_m2 6 rfl) rfl
theorem q274 : (Jvm.Cond.selects "SharedDiskFsModel" ({ cls := "SharedDiskFsModel", name := "write", desc := "(III)I" } : Jvm.MethodName) ({ cls := "SharedDiskFsModel", name := "write", desc := "(III)I" } : Jvm.MethodName)) ∈ lw_all := lw_g (lw_at lw_m2 7 rfl) rfl
theorem q275 : (Jvm.Cond.code ({ cls := "SharedDiskFsModel", name := "write", desc := "(III)I" } : Jvm.MethodName) prog_3_method_8_code (5 : Nat) (Option.some Jvm.ClassFile.FieldType.int)) ∈ lw_all := lw_g (lw_at lw_m2 8 rfl) rfl
theorem q276 : (Jvm.Cond.methodLink "SharedDiskFsModel" (42 : Nat) ({ cls := "SharedDiskFsModel", name := nmU, desc := "(I)I" } : Jvm.MethodName)) ∈ lw_all := lw_g (lw_at lw_m2 9 rfl) rfl
theorem q277 : (Jvm.Cond.instanceMethod ({ cls := "SharedDiskFsModel", name := nmU, desc := "(I)I" } : Jvm.MethodName)) ∈ lw_all := lw_g (lw_at lw_m2 10 rfl) rfl
theorem q278 : (Jvm.Cond.selects "SharedDiskFsModel" ({ cls := "SharedDiskFsModel", name := nmU, desc := "(I)I" } : Jvm.MethodName) ({ cls := "SharedDiskFsModel", name := nmU, desc := "(I)I" } : Jvm.MethodName)) ∈ lw_all := lw_g (lw_at lw_m2 11 rfl) rfl
theorem q279 : (Jvm.Cond.code ({ cls := "SharedDiskFsModel", name := nmU, desc := "(I)I" } : Jvm.MethodName) prog_3_method_18_code (4 : Nat) (Option.some Jvm.ClassFile.FieldType.int)) ∈ lw_all := lw_g (lw_at lw_m2 12 rfl) rfl
theorem q281 : (Jvm.Cond.instanceMethod ({ cls := "SharedDiskFsModel", name := "swap", desc := "(III)I" } : Jvm.MethodName)) ∈ lw_all := lw_g (lw_at lw_m2 14 rfl) rfl
theorem q282 : (Jvm.Cond.selects "SharedDiskFsModel" ({ cls := "SharedDiskFsModel", name := "swap", desc := "(III)I" } : Jvm.MethodName) ({ cls := "SharedDiskFsModel", name := "swap", desc := "(III)I" } : Jvm.MethodName)) ∈ lw_all := lw_g (lw_at lw_m2 15 rfl) rfl
theorem q283 : (Jvm.Cond.code ({ cls := "SharedDiskFsModel", name := "swap", desc := "(III)I" } : Jvm.MethodName) prog_3_method_9_code (7 : Nat) (Option.some Jvm.ClassFile.FieldType.int)) ∈ lw_all := lw_g (lw_at lw_m2 16 rfl) rfl
theorem q284 : (Jvm.Cond.methodLink "SharedDiskFsModel" (46 : Nat) ({ cls := "SharedDiskFsModel", name := "read", desc := "(II)I" } : Jvm.MethodName)) ∈ lw_all := lw_g (lw_at lw_m2 17 rfl) rfl
theorem q285 : (Jvm.Cond.methodLink "SharedDiskFsModel" (50 : Nat) ({ cls := "SharedDiskFsModel", name := "write", desc := "(III)I" } : Jvm.MethodName)) ∈ lw_all := lw_g (lw_at lw_m2 18 rfl) rfl
theorem q287 : (Jvm.Cond.instanceMethod ({ cls := "SharedDiskFsModel", name := "sync", desc := "(I)I" } : Jvm.MethodName)) ∈ lw_all := lw_g (lw_at lw_m2 20 rfl) rfl
theorem q288 : (Jvm.Cond.selects "SharedDiskFsModel" ({ cls := "SharedDiskFsModel", name := "sync", desc := "(I)I" } : Jvm.MethodName) ({ cls := "SharedDiskFsModel", name := "sync", desc := "(I)I" } : Jvm.MethodName)) ∈ lw_all := lw_g (lw_at lw_m2 21 rfl) rfl
theorem q289 : (Jvm.Cond.code ({ cls := "SharedDiskFsModel", name := "sync", desc := "(I)I" } : Jvm.MethodName) prog_3_method_10_code (3 : Nat) (Option.some Jvm.ClassFile.FieldType.int)) ∈ lw_all := lw_g (lw_at lw_m2 22 rfl) rfl
theorem q291 : (Jvm.Cond.instanceMethod ({ cls := "SharedDiskFsModel", name := "crash", desc := "(I)I" } : Jvm.MethodName)) ∈ lw_all := lw_g (lw_at lw_m2 24 rfl) rfl
theorem q292 : (Jvm.Cond.selects "SharedDiskFsModel" ({ cls := "SharedDiskFsModel", name := "crash", desc := "(I)I" } : Jvm.MethodName) ({ cls := "SharedDiskFsModel", name := "crash", desc := "(I)I" } : Jvm.MethodName)) ∈ lw_all := lw_g (lw_at lw_m2 25 rfl) rfl
theorem q293 : (Jvm.Cond.code ({ cls := "SharedDiskFsModel", name := "crash", desc := "(I)I" } : Jvm.MethodName) prog_3_method_11_code (2 : Nat) (Option.some Jvm.ClassFile.FieldType.int)) ∈ lw_all := lw_g (lw_at lw_m2 26 rfl) rfl
theorem q294 : (Jvm.Cond.methodLink "SharedDiskFsModel" (53 : Nat) ({ cls := "SharedDiskFsModel", name := "crashInSync", desc := "(IZ)I" } : Jvm.MethodName)) ∈ lw_all := lw_g (lw_at lw_m2 27 rfl) rfl
theorem q295 : (Jvm.Cond.instanceMethod ({ cls := "SharedDiskFsModel", name := "crashInSync", desc := "(IZ)I" } : Jvm.MethodName)) ∈ lw_all := lw_g (lw_at lw_m2 28 rfl) rfl
theorem q296 : (Jvm.Cond.selects "SharedDiskFsModel" ({ cls := "SharedDiskFsModel", name := "crashInSync", desc := "(IZ)I" } : Jvm.MethodName) ({ cls := "SharedDiskFsModel", name := "crashInSync", desc := "(IZ)I" } : Jvm.MethodName)) ∈ lw_all := lw_g (lw_at lw_m2 29 rfl) rfl
theorem q297 : (Jvm.Cond.code ({ cls := "SharedDiskFsModel", name := "crashInSync", desc := "(IZ)I" } : Jvm.MethodName) prog_3_method_12_code (4 : Nat) (Option.some Jvm.ClassFile.FieldType.int)) ∈ lw_all := lw_g (lw_at lw_m2 30 rfl) rfl
theorem q300 : (Jvm.Cond.instanceMethod ({ cls := "SharedDiskFsModel", name := "restart", desc := "(I)I" } : Jvm.MethodName)) ∈ lw_all := lw_g (lw_at lw_m2 33 rfl) rfl
theorem q301 : (Jvm.Cond.selects "SharedDiskFsModel" ({ cls := "SharedDiskFsModel", name := "restart", desc := "(I)I" } : Jvm.MethodName) ({ cls := "SharedDiskFsModel", name := "restart", desc := "(I)I" } : Jvm.MethodName)) ∈ lw_all := lw_g (lw_at lw_m2 34 rfl) rfl
theorem q302 : (Jvm.Cond.code ({ cls := "SharedDiskFsModel", name := "restart", desc := "(I)I" } : Jvm.MethodName) prog_3_method_13_code (3 : Nat) (Option.some Jvm.ClassFile.FieldType.int)) ∈ lw_all := lw_g (lw_at lw_m2 35 rfl) rfl
theorem q304 : (Jvm.Cond.instanceMethod ({ cls := "SharedDiskFsModel", name := "powerCut", desc := "()I" } : Jvm.MethodName)) ∈ lw_all := lw_g (lw_at lw_m2 37 rfl) rfl
theorem q305 : (Jvm.Cond.selects "SharedDiskFsModel" ({ cls := "SharedDiskFsModel", name := "powerCut", desc := "()I" } : Jvm.MethodName) ({ cls := "SharedDiskFsModel", name := "powerCut", desc := "()I" } : Jvm.MethodName)) ∈ lw_all := lw_g (lw_at lw_m2 38 rfl) rfl
theorem q306 : (Jvm.Cond.code ({ cls := "SharedDiskFsModel", name := "powerCut", desc := "()I" } : Jvm.MethodName) prog_3_method_14_code (3 : Nat) (Option.some Jvm.ClassFile.FieldType.int)) ∈ lw_all := lw_g (lw_at lw_m2 39 rfl) rfl
theorem q308 : (Jvm.Cond.instanceMethod ({ cls := "SharedDiskFsModel", name := "content", desc := "(I)I" } : Jvm.MethodName)) ∈ lw_all := lw_g (lw_at lw_m2 41 rfl) rfl
theorem q309 : (Jvm.Cond.selects "SharedDiskFsModel" ({ cls := "SharedDiskFsModel", name := "content", desc := "(I)I" } : Jvm.MethodName) ({ cls := "SharedDiskFsModel", name := "content", desc := "(I)I" } : Jvm.MethodName)) ∈ lw_all := lw_g (lw_at lw_m2 42 rfl) rfl
theorem q310 : (Jvm.Cond.code ({ cls := "SharedDiskFsModel", name := "content", desc := "(I)I" } : Jvm.MethodName) prog_3_method_15_code (2 : Nat) (Option.some Jvm.ClassFile.FieldType.int)) ∈ lw_all := lw_g (lw_at lw_m2 43 rfl) rfl
theorem q312 : (Jvm.Cond.instanceMethod ({ cls := "SharedDiskFsModel", name := "safe", desc := "(I)I" } : Jvm.MethodName)) ∈ lw_all := lw_g (lw_at lw_m2 45 rfl) rfl
theorem q313 : (Jvm.Cond.selects "SharedDiskFsModel" ({ cls := "SharedDiskFsModel", name := "safe", desc := "(I)I" } : Jvm.MethodName) ({ cls := "SharedDiskFsModel", name := "safe", desc := "(I)I" } : Jvm.MethodName)) ∈ lw_all := lw_g (lw_at lw_m2 46 rfl) rfl
theorem q314 : (Jvm.Cond.code ({ cls := "SharedDiskFsModel", name := "safe", desc := "(I)I" } : Jvm.MethodName) prog_3_method_16_code (2 : Nat) (Option.some Jvm.ClassFile.FieldType.int)) ∈ lw_all := lw_g (lw_at lw_m2 47 rfl) rfl
theorem q316 : (Jvm.Cond.instanceMethod ({ cls := "SharedDiskFsModel", name := "owner", desc := "(I)I" } : Jvm.MethodName)) ∈ lw_all := lw_g (lw_at lw_m2 49 rfl) rfl
theorem q317 : (Jvm.Cond.selects "SharedDiskFsModel" ({ cls := "SharedDiskFsModel", name := "owner", desc := "(I)I" } : Jvm.MethodName) ({ cls := "SharedDiskFsModel", name := "owner", desc := "(I)I" } : Jvm.MethodName)) ∈ lw_all := lw_g (lw_at lw_m2 50 rfl) rfl
theorem q318 : (Jvm.Cond.code ({ cls := "SharedDiskFsModel", name := "owner", desc := "(I)I" } : Jvm.MethodName) prog_3_method_17_code (2 : Nat) (Option.some Jvm.ClassFile.FieldType.int)) ∈ lw_all := lw_g (lw_at lw_m2 51 rfl) rfl
theorem q321 : (Jvm.Cond.instanceMethod ({ cls := "SharedDiskFsModel", name := "up", desc := "(I)Z" } : Jvm.MethodName)) ∈ lw_all := lw_g (lw_at lw_m2 54 rfl) rfl
theorem q322 : (Jvm.Cond.selects "SharedDiskFsModel" ({ cls := "SharedDiskFsModel", name := "up", desc := "(I)Z" } : Jvm.MethodName) ({ cls := "SharedDiskFsModel", name := "up", desc := "(I)Z" } : Jvm.MethodName)) ∈ lw_all := lw_g (lw_at lw_m2 55 rfl) rfl
theorem q323 : (Jvm.Cond.code ({ cls := "SharedDiskFsModel", name := "up", desc := "(I)Z" } : Jvm.MethodName) prog_3_method_19_code (2 : Nat) (Option.some Jvm.ClassFile.FieldType.boolean)) ∈ lw_all := lw_g (lw_at lw_m2 56 rfl) rfl
theorem in_X2 : ∀ w ∈ wsX20, w ∈ lw_all := lw_in wsX20 [239, 241, 243, 245] (by decide +kernel) (by decide +kernel)

/-! java/lang/Object -/
set_option maxRecDepth 100000
def RJ0 : String := "java/lang/Object"
abbrev cJ0_init : ByteArray := object_method_1_code
def yJ0_init : MethodName := ⟨RJ0, "<init>", "()V"⟩
theorem dJ0_init_0 : decode cJ0_init 0 = .ok (.return_, 1) := by decide +kernel
theorem q36 : (Jvm.Cond.instanceMethod ({ cls := "java/lang/Object", name := "<init>", desc := "()V" } : Jvm.MethodName)) ∈ lw_all := lw_g (lw_at lw_m1 9 rfl) rfl
theorem q37 : (Jvm.Cond.code ({ cls := "java/lang/Object", name := "<init>", desc := "()V" } : Jvm.MethodName) object_method_1_code (1 : Nat) (Option.none : Option Jvm.ClassFile.FieldType)) ∈ lw_all := lw_g (lw_at lw_m1 10 rfl) rfl

theorem q78 : (Jvm.Cond.arrayClass Jvm.ClassFile.FieldType.boolean) ∈ lw_all := lw_g (lw_at lw_m1 51 rfl) rfl
set_option maxRecDepth 100000
theorem q79 : (Jvm.Cond.arrayClass Jvm.ClassFile.FieldType.int) ∈ lw_all := lw_g (lw_at lw_m1 52 rfl) rfl
end
section
/-! SharedDiskFsLaw -/
set_option maxRecDepth 100000
def RX0 : String := "SharedDiskFsLaw"
abbrev cX0_cell : ByteArray := method_2_code
def yX0_cell : MethodName := ⟨RX0, "cell", "([II)I"⟩
theorem dX0_cell_0 : decode cX0_cell 0 = .ok (.iload_n 1, 1) := by decide +kernel
theorem dX0_cell_1 : decode cX0_cell 1 = .ok (.aload_n 0, 1) := by decide +kernel
theorem dX0_cell_2 : decode cX0_cell 2 = .ok (.arraylength, 1) := by decide +kernel
theorem dX0_cell_3 : decode cX0_cell 3 = .ok (.if_icmp .ge 9, 3) := by decide +kernel
theorem dX0_cell_6 : decode cX0_cell 6 = .ok (.aload_n 0, 1) := by decide +kernel
theorem dX0_cell_7 : decode cX0_cell 7 = .ok (.iload_n 1, 1) := by decide +kernel
theorem dX0_cell_8 : decode cX0_cell 8 = .ok (.iaload, 1) := by decide +kernel
theorem dX0_cell_9 : decode cX0_cell 9 = .ok (.goto 4, 3) := by decide +kernel
theorem dX0_cell_12 : decode cX0_cell 12 = .ok (.iconst 0, 1) := by decide +kernel
theorem dX0_cell_13 : decode cX0_cell 13 = .ok (.ireturn, 1) := by decide +kernel
theorem q27 : (Jvm.Cond.initialized "SharedDiskFsLaw") ∈ lw_all := lw_g (lw_at lw_m1 0 rfl) rfl
theorem q30 : (Jvm.Cond.classLink "SharedDiskFsLaw" (7 : Nat) "SharedDiskFs") ∈ lw_all := lw_g (lw_at lw_m1 3 rfl) rfl
theorem q32 : (Jvm.Cond.methodLink "SharedDiskFsLaw" (15 : Nat) ({ cls := "SharedDiskFs", name := "<init>", desc := "(I)V" } : Jvm.MethodName)) ∈ lw_all := lw_g (lw_at lw_m1 5 rfl) rfl
theorem q80 : (Jvm.Cond.methodLink "SharedDiskFsLaw" (21 : Nat) ({ cls := "SharedDiskFs", name := "read", desc := "(II)I" } : Jvm.MethodName)) ∈ lw_all := lw_g (lw_at lw_m1 53 rfl) rfl
theorem q162 : (Jvm.Cond.methodLink "SharedDiskFsLaw" (26 : Nat) ({ cls := "SharedDiskFs", name := "write", desc := "(III)I" } : Jvm.MethodName)) ∈ lw_all := lw_g (lw_at lw_m1 135 rfl) rfl
theorem q170 : (Jvm.Cond.methodLink "SharedDiskFsLaw" (31 : Nat) ({ cls := "SharedDiskFs", name := "swap", desc := "(III)I" } : Jvm.MethodName)) ∈ lw_all := lw_g (lw_at lw_m1 143 rfl) rfl
theorem q174 : (Jvm.Cond.methodLink "SharedDiskFsLaw" (35 : Nat) ({ cls := "SharedDiskFs", name := "sync", desc := "(I)I" } : Jvm.MethodName)) ∈ lw_all := lw_g (lw_at lw_m1 147 rfl) rfl
theorem q178 : (Jvm.Cond.methodLink "SharedDiskFsLaw" (40 : Nat) ({ cls := "SharedDiskFs", name := "crash", desc := "(I)I" } : Jvm.MethodName)) ∈ lw_all := lw_g (lw_at lw_m1 151 rfl) rfl
theorem q190 : (Jvm.Cond.methodLink "SharedDiskFsLaw" (44 : Nat) ({ cls := "SharedDiskFs", name := "crashInSync", desc := "(IZ)I" } : Jvm.MethodName)) ∈ lw_all := lw_g (lw_at lw_m1 163 rfl) rfl
theorem q194 : (Jvm.Cond.methodLink "SharedDiskFsLaw" (49 : Nat) ({ cls := "SharedDiskFs", name := "restart", desc := "(I)I" } : Jvm.MethodName)) ∈ lw_all := lw_g (lw_at lw_m1 167 rfl) rfl
theorem q198 : (Jvm.Cond.methodLink "SharedDiskFsLaw" (53 : Nat) ({ cls := "SharedDiskFs", name := "powerCut", desc := "()I" } : Jvm.MethodName)) ∈ lw_all := lw_g (lw_at lw_m1 171 rfl) rfl
theorem q202 : (Jvm.Cond.methodLink "SharedDiskFsLaw" (58 : Nat) ({ cls := "SharedDiskFs", name := "content", desc := "(I)I" } : Jvm.MethodName)) ∈ lw_all := lw_g (lw_at lw_m1 175 rfl) rfl
theorem q210 : (Jvm.Cond.methodLink "SharedDiskFsLaw" (62 : Nat) ({ cls := "SharedDiskFs", name := "safe", desc := "(I)I" } : Jvm.MethodName)) ∈ lw_all := lw_g (lw_at lw_m1 183 rfl) rfl
theorem q214 : (Jvm.Cond.methodLink "SharedDiskFsLaw" (66 : Nat) ({ cls := "SharedDiskFs", name := "owner", desc := "(I)I" } : Jvm.MethodName)) ∈ lw_all := lw_g (lw_at lw_m1 187 rfl) rfl
theorem q218 : (Jvm.Cond.methodLink "SharedDiskFsLaw" (70 : Nat) ({ cls := "SharedDiskFs", name := nmU, desc := "(I)I" } : Jvm.MethodName)) ∈ lw_all := lw_g (lw_at lw_m1 191 rfl) rfl
theorem q222 : (Jvm.Cond.methodLink "SharedDiskFsLaw" (74 : Nat) ({ cls := "SharedDiskFs", name := "up", desc := "(I)Z" } : Jvm.MethodName)) ∈ lw_all := lw_g (lw_at lw_m1 195 rfl) rfl
theorem q226 : (Jvm.Cond.methodLink "SharedDiskFsLaw" (9 : Nat) ({ cls := "SharedDiskFsLaw", name := "cell", desc := "([II)I" } : Jvm.MethodName)) ∈ lw_all := lw_g (lw_at lw_m1 199 rfl) rfl
theorem q227 : (Jvm.Cond.static ({ cls := "SharedDiskFsLaw", name := "cell", desc := "([II)I" } : Jvm.MethodName)) ∈ lw_all := lw_g (lw_at lw_m1 200 rfl) rfl
theorem q228 : (Jvm.Cond.code ({ cls := "SharedDiskFsLaw", name := "cell", desc := "([II)I" } : Jvm.MethodName) method_2_code (2 : Nat) (Option.some Jvm.ClassFile.FieldType.int)) ∈ lw_all := lw_g (lw_at lw_m1 201 rfl) rfl
theorem q229 : (Jvm.Cond.classLink "SharedDiskFsLaw" (18 : Nat) "SharedDiskFsModel") ∈ lw_all := lw_g (lw_at lw_m1 202 rfl) rfl
theorem q231 : (Jvm.Cond.methodLink "SharedDiskFsLaw" (20 : Nat) ({ cls := "SharedDiskFsModel", name := "<init>", desc := "(I)V" } : Jvm.MethodName)) ∈ lw_all := lw_g (lw_at lw_m1 204 rfl) rfl
theorem q248 : (Jvm.Cond.methodLink "SharedDiskFsLaw" (25 : Nat) ({ cls := "SharedDiskFsModel", name := "read", desc := "(II)I" } : Jvm.MethodName)) ∈ lw_all := lw_g (lw_at lw_m1 221 rfl) rfl
theorem q272 : (Jvm.Cond.methodLink "SharedDiskFsLaw" (30 : Nat) ({ cls := "SharedDiskFsModel", name := "write", desc := "(III)I" } : Jvm.MethodName)) ∈ lw_all := lw_g (lw_at lw_m2 5 rfl) rfl
theorem q280 : (Jvm.Cond.methodLink "SharedDiskFsLaw" (34 : Nat) ({ cls := "SharedDiskFsModel", name := "swap", desc := "(III)I" } : Jvm.MethodName)) ∈ lw_all := lw_g (lw_at lw_m2 13 rfl) rfl
theorem q286 : (Jvm.Cond.methodLink "SharedDiskFsLaw" (39 : Nat) ({ cls := "SharedDiskFsModel", name := "sync", desc := "(I)I" } : Jvm.MethodName)) ∈ lw_all := lw_g (lw_at lw_m2 19 rfl) rfl
theorem q290 : (Jvm.Cond.methodLink "SharedDiskFsLaw" (43 : Nat) ({ cls := "SharedDiskFsModel", name := "crash", desc := "(I)I" } : Jvm.MethodName)) ∈ lw_all := lw_g (lw_at lw_m2 23 rfl) rfl
theorem q298 : (Jvm.Cond.methodLink "SharedDiskFsLaw" (48 : Nat) ({ cls := "SharedDiskFsModel", name := "crashInSync", desc := "(IZ)I" } : Jvm.MethodName)) ∈ lw_all := lw_g (lw_at lw_m2 31 rfl) rfl
theorem q299 : (Jvm.Cond.methodLink "SharedDiskFsLaw" (52 : Nat) ({ cls := "SharedDiskFsModel", name := "restart", desc := "(I)I" } : Jvm.MethodName)) ∈ lw_all := lw_g (lw_at lw_m2 32 rfl) rfl
theorem q303 : (Jvm.Cond.methodLink "SharedDiskFsLaw" (57 : Nat) ({ cls := "SharedDiskFsModel", name := "powerCut", desc := "()I" } : Jvm.MethodName)) ∈ lw_all := lw_g (lw_at lw_m2 36 rfl) rfl
theorem q307 : (Jvm.Cond.methodLink "SharedDiskFsLaw" (61 : Nat) ({ cls := "SharedDiskFsModel", name := "content", desc := "(I)I" } : Jvm.MethodName)) ∈ lw_all := lw_g (lw_at lw_m2 40 rfl) rfl
theorem q311 : (Jvm.Cond.methodLink "SharedDiskFsLaw" (65 : Nat) ({ cls := "SharedDiskFsModel", name := "safe", desc := "(I)I" } : Jvm.MethodName)) ∈ lw_all := lw_g (lw_at lw_m2 44 rfl) rfl
theorem q315 : (Jvm.Cond.methodLink "SharedDiskFsLaw" (69 : Nat) ({ cls := "SharedDiskFsModel", name := "owner", desc := "(I)I" } : Jvm.MethodName)) ∈ lw_all := lw_g (lw_at lw_m2 48 rfl) rfl
theorem q319 : (Jvm.Cond.methodLink "SharedDiskFsLaw" (73 : Nat) ({ cls := "SharedDiskFsModel", name := nmU, desc := "(I)I" } : Jvm.MethodName)) ∈ lw_all := lw_g (lw_at lw_m2 52 rfl) rfl
theorem q320 : (Jvm.Cond.methodLink "SharedDiskFsLaw" (78 : Nat) ({ cls := "SharedDiskFsModel", name := "up", desc := "(I)Z" } : Jvm.MethodName)) ∈ lw_all := lw_g (lw_at lw_m2 53 rfl) rfl

/-! the law's own entry -/
set_option maxRecDepth 100000
abbrev cL_law : ByteArray := code
theorem dL_law_0 : decode cL_law 0 = .ok (.new 7, 3) := by decide +kernel
theorem dL_law_3 : decode cL_law 3 = .ok (.dup, 1) := by decide +kernel
theorem dL_law_4 : decode cL_law 4 = .ok (.aload_n 0, 1) := by decide +kernel
theorem dL_law_5 : decode cL_law 5 = .ok (.iconst 0, 1) := by decide +kernel
theorem dL_law_6 : decode cL_law 6 = .ok (.invokestatic 9, 3) := by decide +kernel
theorem dL_law_9 : decode cL_law 9 = .ok (.invokespecial 15, 3) := by decide +kernel
theorem dL_law_12 : decode cL_law 12 = .ok (.astore_n 1, 1) := by decide +kernel
theorem dL_law_13 : decode cL_law 13 = .ok (.new 18, 3) := by decide +kernel
theorem dL_law_16 : decode cL_law 16 = .ok (.dup, 1) := by decide +kernel
theorem dL_law_17 : decode cL_law 17 = .ok (.aload_n 0, 1) := by decide +kernel
theorem dL_law_18 : decode cL_law 18 = .ok (.iconst 0, 1) := by decide +kernel
theorem dL_law_19 : decode cL_law 19 = .ok (.invokestatic 9, 3) := by decide +kernel
theorem dL_law_22 : decode cL_law 22 = .ok (.invokespecial 20, 3) := by decide +kernel
theorem dL_law_25 : decode cL_law 25 = .ok (.astore_n 2, 1) := by decide +kernel
theorem dL_law_26 : decode cL_law 26 = .ok (.iconst 1, 1) := by decide +kernel
theorem dL_law_27 : decode cL_law 27 = .ok (.istore_n 3, 1) := by decide +kernel
theorem dL_law_28 : decode cL_law 28 = .ok (.iload_n 3, 1) := by decide +kernel
theorem dL_law_29 : decode cL_law 29 = .ok (.aload_n 0, 1) := by decide +kernel
theorem dL_law_30 : decode cL_law 30 = .ok (.arraylength, 1) := by decide +kernel
theorem dL_law_31 : decode cL_law 31 = .ok (.iconst 4, 1) := by decide +kernel
theorem dL_law_32 : decode cL_law 32 = .ok (.isub, 1) := by decide +kernel
theorem dL_law_33 : decode cL_law 33 = .ok (.if_icmp .gt 446, 3) := by decide +kernel
theorem dL_law_36 : decode cL_law 36 = .ok (.aload_n 0, 1) := by decide +kernel
theorem dL_law_37 : decode cL_law 37 = .ok (.iload_n 3, 1) := by decide +kernel
theorem dL_law_38 : decode cL_law 38 = .ok (.iaload, 1) := by decide +kernel
theorem dL_law_39 : decode cL_law 39 = .ok (.bipush 15, 2) := by decide +kernel
theorem dL_law_41 : decode cL_law 41 = .ok (.iand, 1) := by decide +kernel
theorem dL_law_42 : decode cL_law 42 = .ok (.tableswitch 431 0 12 #[66, 99, 142, 185, 208, 231, 280, 303, 316, 339, 362, 385, 408], 66) := by decide +kernel
theorem dL_law_108 : decode cL_law 108 = .ok (.aload_n 1, 1) := by decide +kernel
theorem dL_law_109 : decode cL_law 109 = .ok (.aload_n 0, 1) := by decide +kernel
theorem dL_law_110 : decode cL_law 110 = .ok (.iload_n 3, 1) := by decide +kernel
theorem dL_law_111 : decode cL_law 111 = .ok (.iconst 1, 1) := by decide +kernel
theorem dL_law_112 : decode cL_law 112 = .ok (.iadd, 1) := by decide +kernel
theorem dL_law_113 : decode cL_law 113 = .ok (.iaload, 1) := by decide +kernel
theorem dL_law_114 : decode cL_law 114 = .ok (.aload_n 0, 1) := by decide +kernel
theorem dL_law_115 : decode cL_law 115 = .ok (.iload_n 3, 1) := by decide +kernel
theorem dL_law_116 : decode cL_law 116 = .ok (.iconst 2, 1) := by decide +kernel
theorem dL_law_117 : decode cL_law 117 = .ok (.iadd, 1) := by decide +kernel
theorem dL_law_118 : decode cL_law 118 = .ok (.iaload, 1) := by decide +kernel
theorem dL_law_119 : decode cL_law 119 = .ok (.invokevirtual 21, 3) := by decide +kernel
theorem dL_law_122 : decode cL_law 122 = .ok (.aload_n 2, 1) := by decide +kernel
theorem dL_law_123 : decode cL_law 123 = .ok (.aload_n 0, 1) := by decide +kernel
theorem dL_law_124 : decode cL_law 124 = .ok (.iload_n 3, 1) := by decide +kernel
theorem dL_law_125 : decode cL_law 125 = .ok (.iconst 1, 1) := by decide +kernel
theorem dL_law_126 : decode cL_law 126 = .ok (.iadd, 1) := by decide +kernel
theorem dL_law_127 : decode cL_law 127 = .ok (.iaload, 1) := by decide +kernel
theorem dL_law_128 : decode cL_law 128 = .ok (.aload_n 0, 1) := by decide +kernel
theorem dL_law_129 : decode cL_law 129 = .ok (.iload_n 3, 1) := by decide +kernel
theorem dL_law_130 : decode cL_law 130 = .ok (.iconst 2, 1) := by decide +kernel
theorem dL_law_131 : decode cL_law 131 = .ok (.iadd, 1) := by decide +kernel
theorem dL_law_132 : decode cL_law 132 = .ok (.iaload, 1) := by decide +kernel
theorem dL_law_133 : decode cL_law 133 = .ok (.invokevirtual 25, 3) := by decide +kernel
theorem dL_law_136 : decode cL_law 136 = .ok (.if_icmp .eq 337, 3) := by decide +kernel
theorem dL_law_139 : decode cL_law 139 = .ok (.iconst 0, 1) := by decide +kernel
theorem dL_law_140 : decode cL_law 140 = .ok (.ireturn, 1) := by decide +kernel
theorem dL_law_141 : decode cL_law 141 = .ok (.aload_n 1, 1) := by decide +kernel
theorem dL_law_142 : decode cL_law 142 = .ok (.aload_n 0, 1) := by decide +kernel
theorem dL_law_143 : decode cL_law 143 = .ok (.iload_n 3, 1) := by decide +kernel
theorem dL_law_144 : decode cL_law 144 = .ok (.iconst 1, 1) := by decide +kernel
theorem dL_law_145 : decode cL_law 145 = .ok (.iadd, 1) := by decide +kernel
theorem dL_law_146 : decode cL_law 146 = .ok (.iaload, 1) := by decide +kernel
theorem dL_law_147 : decode cL_law 147 = .ok (.aload_n 0, 1) := by decide +kernel
theorem dL_law_148 : decode cL_law 148 = .ok (.iload_n 3, 1) := by decide +kernel
theorem dL_law_149 : decode cL_law 149 = .ok (.iconst 2, 1) := by decide +kernel
theorem dL_law_150 : decode cL_law 150 = .ok (.iadd, 1) := by decide +kernel
theorem dL_law_151 : decode cL_law 151 = .ok (.iaload, 1) := by decide +kernel
theorem dL_law_152 : decode cL_law 152 = .ok (.aload_n 0, 1) := by decide +kernel
theorem dL_law_153 : decode cL_law 153 = .ok (.iload_n 3, 1) := by decide +kernel
theorem dL_law_154 : decode cL_law 154 = .ok (.iconst 3, 1) := by decide +kernel
theorem dL_law_155 : decode cL_law 155 = .ok (.iadd, 1) := by decide +kernel
theorem dL_law_156 : decode cL_law 156 = .ok (.iaload, 1) := by decide +kernel
theorem dL_law_157 : decode cL_law 157 = .ok (.invokevirtual 26, 3) := by decide +kernel
theorem dL_law_160 : decode cL_law 160 = .ok (.aload_n 2, 1) := by decide +kernel
theorem dL_law_161 : decode cL_law 161 = .ok (.aload_n 0, 1) := by decide +kernel
theorem dL_law_162 : decode cL_law 162 = .ok (.iload_n 3, 1) := by decide +kernel
theorem dL_law_163 : decode cL_law 163 = .ok (.iconst 1, 1) := by decide +kernel
theorem dL_law_164 : decode cL_law 164 = .ok (.iadd, 1) := by decide +kernel
theorem dL_law_165 : decode cL_law 165 = .ok (.iaload, 1) := by decide +kernel
theorem dL_law_166 : decode cL_law 166 = .ok (.aload_n 0, 1) := by decide +kernel
theorem dL_law_167 : decode cL_law 167 = .ok (.iload_n 3, 1) := by decide +kernel
theorem dL_law_168 : decode cL_law 168 = .ok (.iconst 2, 1) := by decide +kernel
theorem dL_law_169 : decode cL_law 169 = .ok (.iadd, 1) := by decide +kernel
theorem dL_law_170 : decode cL_law 170 = .ok (.iaload, 1) := by decide +kernel
theorem dL_law_171 : decode cL_law 171 = .ok (.aload_n 0, 1) := by decide +kernel
theorem dL_law_172 : decode cL_law 172 = .ok (.iload_n 3, 1) := by decide +kernel
theorem dL_law_173 : decode cL_law 173 = .ok (.iconst 3, 1) := by decide +kernel
theorem dL_law_174 : decode cL_law 174 = .ok (.iadd, 1) := by decide +kernel
theorem dL_law_175 : decode cL_law 175 = .ok (.iaload, 1) := by decide +kernel
theorem dL_law_176 : decode cL_law 176 = .ok (.invokevirtual 30, 3) := by decide +kernel
theorem dL_law_179 : decode cL_law 179 = .ok (.if_icmp .eq 294, 3) := by decide +kernel
theorem dL_law_182 : decode cL_law 182 = .ok (.iconst 0, 1) := by decide +kernel
theorem dL_law_183 : decode cL_law 183 = .ok (.ireturn, 1) := by decide +kernel
theorem dL_law_184 : decode cL_law 184 = .ok (.aload_n 1, 1) := by decide +kernel
theorem dL_law_185 : decode cL_law 185 = .ok (.aload_n 0, 1) := by decide +kernel
theorem dL_law_186 : decode cL_law 186 = .ok (.iload_n 3, 1) := by decide +kernel
theorem dL_law_187 : decode cL_law 187 = .ok (.iconst 1, 1) := by decide +kernel
theorem dL_law_188 : decode cL_law 188 = .ok (.iadd, 1) := by decide +kernel
theorem dL_law_189 : decode cL_law 189 = .ok (.iaload, 1) := by decide +kernel
theorem dL_law_190 : decode cL_law 190 = .ok (.aload_n 0, 1) := by decide +kernel
theorem dL_law_191 : decode cL_law 191 = .ok (.iload_n 3, 1) := by decide +kernel
theorem dL_law_192 : decode cL_law 192 = .ok (.iconst 2, 1) := by decide +kernel
theorem dL_law_193 : decode cL_law 193 = .ok (.iadd, 1) := by decide +kernel
theorem dL_law_194 : decode cL_law 194 = .ok (.iaload, 1) := by decide +kernel
theorem dL_law_195 : decode cL_law 195 = .ok (.aload_n 0, 1) := by decide +kernel
theorem dL_law_196 : decode cL_law 196 = .ok (.iload_n 3, 1) := by decide +kernel
theorem dL_law_197 : decode cL_law 197 = .ok (.iconst 3, 1) := by decide +kernel
theorem dL_law_198 : decode cL_law 198 = .ok (.iadd, 1) := by decide +kernel
theorem dL_law_199 : decode cL_law 199 = .ok (.iaload, 1) := by decide +kernel
theorem dL_law_200 : decode cL_law 200 = .ok (.invokevirtual 31, 3) := by decide +kernel
theorem dL_law_203 : decode cL_law 203 = .ok (.aload_n 2, 1) := by decide +kernel
theorem dL_law_204 : decode cL_law 204 = .ok (.aload_n 0, 1) := by decide +kernel
theorem dL_law_205 : decode cL_law 205 = .ok (.iload_n 3, 1) := by decide +kernel
theorem dL_law_206 : decode cL_law 206 = .ok (.iconst 1, 1) := by decide +kernel
theorem dL_law_207 : decode cL_law 207 = .ok (.iadd, 1) := by decide +kernel
theorem dL_law_208 : decode cL_law 208 = .ok (.iaload, 1) := by decide +kernel
theorem dL_law_209 : decode cL_law 209 = .ok (.aload_n 0, 1) := by decide +kernel
theorem dL_law_210 : decode cL_law 210 = .ok (.iload_n 3, 1) := by decide +kernel
theorem dL_law_211 : decode cL_law 211 = .ok (.iconst 2, 1) := by decide +kernel
theorem dL_law_212 : decode cL_law 212 = .ok (.iadd, 1) := by decide +kernel
theorem dL_law_213 : decode cL_law 213 = .ok (.iaload, 1) := by decide +kernel
theorem dL_law_214 : decode cL_law 214 = .ok (.aload_n 0, 1) := by decide +kernel
theorem dL_law_215 : decode cL_law 215 = .ok (.iload_n 3, 1) := by decide +kernel
theorem dL_law_216 : decode cL_law 216 = .ok (.iconst 3, 1) := by decide +kernel
theorem dL_law_217 : decode cL_law 217 = .ok (.iadd, 1) := by decide +kernel
theorem dL_law_218 : decode cL_law 218 = .ok (.iaload, 1) := by decide +kernel
theorem dL_law_219 : decode cL_law 219 = .ok (.invokevirtual 34, 3) := by decide +kernel
theorem dL_law_222 : decode cL_law 222 = .ok (.if_icmp .eq 251, 3) := by decide +kernel
theorem dL_law_225 : decode cL_law 225 = .ok (.iconst 0, 1) := by decide +kernel
theorem dL_law_226 : decode cL_law 226 = .ok (.ireturn, 1) := by decide +kernel
theorem dL_law_227 : decode cL_law 227 = .ok (.aload_n 1, 1) := by decide +kernel
theorem dL_law_228 : decode cL_law 228 = .ok (.aload_n 0, 1) := by decide +kernel
theorem dL_law_229 : decode cL_law 229 = .ok (.iload_n 3, 1) := by decide +kernel
theorem dL_law_230 : decode cL_law 230 = .ok (.iconst 1, 1) := by decide +kernel
theorem dL_law_231 : decode cL_law 231 = .ok (.iadd, 1) := by decide +kernel
theorem dL_law_232 : decode cL_law 232 = .ok (.iaload, 1) := by decide +kernel
theorem dL_law_233 : decode cL_law 233 = .ok (.invokevirtual 35, 3) := by decide +kernel
theorem dL_law_236 : decode cL_law 236 = .ok (.aload_n 2, 1) := by decide +kernel
theorem dL_law_237 : decode cL_law 237 = .ok (.aload_n 0, 1) := by decide +kernel
theorem dL_law_238 : decode cL_law 238 = .ok (.iload_n 3, 1) := by decide +kernel
theorem dL_law_239 : decode cL_law 239 = .ok (.iconst 1, 1) := by decide +kernel
theorem dL_law_240 : decode cL_law 240 = .ok (.iadd, 1) := by decide +kernel
theorem dL_law_241 : decode cL_law 241 = .ok (.iaload, 1) := by decide +kernel
theorem dL_law_242 : decode cL_law 242 = .ok (.invokevirtual 39, 3) := by decide +kernel
theorem dL_law_245 : decode cL_law 245 = .ok (.if_icmp .eq 228, 3) := by decide +kernel
theorem dL_law_248 : decode cL_law 248 = .ok (.iconst 0, 1) := by decide +kernel
theorem dL_law_249 : decode cL_law 249 = .ok (.ireturn, 1) := by decide +kernel
theorem dL_law_250 : decode cL_law 250 = .ok (.aload_n 1, 1) := by decide +kernel
theorem dL_law_251 : decode cL_law 251 = .ok (.aload_n 0, 1) := by decide +kernel
theorem dL_law_252 : decode cL_law 252 = .ok (.iload_n 3, 1) := by decide +kernel
theorem dL_law_253 : decode cL_law 253 = .ok (.iconst 1, 1) := by decide +kernel
theorem dL_law_254 : decode cL_law 254 = .ok (.iadd, 1) := by decide +kernel
theorem dL_law_255 : decode cL_law 255 = .ok (.iaload, 1) := by decide +kernel
theorem dL_law_256 : decode cL_law 256 = .ok (.invokevirtual 40, 3) := by decide +kernel
theorem dL_law_259 : decode cL_law 259 = .ok (.aload_n 2, 1) := by decide +kernel
theorem dL_law_260 : decode cL_law 260 = .ok (.aload_n 0, 1) := by decide +kernel
theorem dL_law_261 : decode cL_law 261 = .ok (.iload_n 3, 1) := by decide +kernel
theorem dL_law_262 : decode cL_law 262 = .ok (.iconst 1, 1) := by decide +kernel
theorem dL_law_263 : decode cL_law 263 = .ok (.iadd, 1) := by decide +kernel
theorem dL_law_264 : decode cL_law 264 = .ok (.iaload, 1) := by decide +kernel
theorem dL_law_265 : decode cL_law 265 = .ok (.invokevirtual 43, 3) := by decide +kernel
theorem dL_law_268 : decode cL_law 268 = .ok (.if_icmp .eq 205, 3) := by decide +kernel
theorem dL_law_271 : decode cL_law 271 = .ok (.iconst 0, 1) := by decide +kernel
theorem dL_law_272 : decode cL_law 272 = .ok (.ireturn, 1) := by decide +kernel
theorem dL_law_273 : decode cL_law 273 = .ok (.aload_n 1, 1) := by decide +kernel
theorem dL_law_274 : decode cL_law 274 = .ok (.aload_n 0, 1) := by decide +kernel
theorem dL_law_275 : decode cL_law 275 = .ok (.iload_n 3, 1) := by decide +kernel
theorem dL_law_276 : decode cL_law 276 = .ok (.iconst 1, 1) := by decide +kernel
theorem dL_law_277 : decode cL_law 277 = .ok (.iadd, 1) := by decide +kernel
theorem dL_law_278 : decode cL_law 278 = .ok (.iaload, 1) := by decide +kernel
theorem dL_law_279 : decode cL_law 279 = .ok (.aload_n 0, 1) := by decide +kernel
theorem dL_law_280 : decode cL_law 280 = .ok (.iload_n 3, 1) := by decide +kernel
theorem dL_law_281 : decode cL_law 281 = .ok (.iconst 2, 1) := by decide +kernel
theorem dL_law_282 : decode cL_law 282 = .ok (.iadd, 1) := by decide +kernel
theorem dL_law_283 : decode cL_law 283 = .ok (.iaload, 1) := by decide +kernel
theorem dL_law_284 : decode cL_law 284 = .ok (.ifCond .eq 7, 3) := by decide +kernel
theorem dL_law_287 : decode cL_law 287 = .ok (.iconst 1, 1) := by decide +kernel
theorem dL_law_288 : decode cL_law 288 = .ok (.goto 4, 3) := by decide +kernel
theorem dL_law_291 : decode cL_law 291 = .ok (.iconst 0, 1) := by decide +kernel
theorem dL_law_292 : decode cL_law 292 = .ok (.invokevirtual 44, 3) := by decide +kernel
theorem dL_law_295 : decode cL_law 295 = .ok (.aload_n 2, 1) := by decide +kernel
theorem dL_law_296 : decode cL_law 296 = .ok (.aload_n 0, 1) := by decide +kernel
theorem dL_law_297 : decode cL_law 297 = .ok (.iload_n 3, 1) := by decide +kernel
theorem dL_law_298 : decode cL_law 298 = .ok (.iconst 1, 1) := by decide +kernel
theorem dL_law_299 : decode cL_law 299 = .ok (.iadd, 1) := by decide +kernel
theorem dL_law_300 : decode cL_law 300 = .ok (.iaload, 1) := by decide +kernel
theorem dL_law_301 : decode cL_law 301 = .ok (.aload_n 0, 1) := by decide +kernel
theorem dL_law_302 : decode cL_law 302 = .ok (.iload_n 3, 1) := by decide +kernel
theorem dL_law_303 : decode cL_law 303 = .ok (.iconst 2, 1) := by decide +kernel
theorem dL_law_304 : decode cL_law 304 = .ok (.iadd, 1) := by decide +kernel
theorem dL_law_305 : decode cL_law 305 = .ok (.iaload, 1) := by decide +kernel
theorem dL_law_306 : decode cL_law 306 = .ok (.ifCond .eq 7, 3) := by decide +kernel
theorem dL_law_309 : decode cL_law 309 = .ok (.iconst 1, 1) := by decide +kernel
theorem dL_law_310 : decode cL_law 310 = .ok (.goto 4, 3) := by decide +kernel
theorem dL_law_313 : decode cL_law 313 = .ok (.iconst 0, 1) := by decide +kernel
theorem dL_law_314 : decode cL_law 314 = .ok (.invokevirtual 48, 3) := by decide +kernel
theorem dL_law_317 : decode cL_law 317 = .ok (.if_icmp .eq 156, 3) := by decide +kernel
theorem dL_law_320 : decode cL_law 320 = .ok (.iconst 0, 1) := by decide +kernel
theorem dL_law_321 : decode cL_law 321 = .ok (.ireturn, 1) := by decide +kernel
theorem dL_law_322 : decode cL_law 322 = .ok (.aload_n 1, 1) := by decide +kernel
theorem dL_law_323 : decode cL_law 323 = .ok (.aload_n 0, 1) := by decide +kernel
theorem dL_law_324 : decode cL_law 324 = .ok (.iload_n 3, 1) := by decide +kernel
theorem dL_law_325 : decode cL_law 325 = .ok (.iconst 1, 1) := by decide +kernel
theorem dL_law_326 : decode cL_law 326 = .ok (.iadd, 1) := by decide +kernel
theorem dL_law_327 : decode cL_law 327 = .ok (.iaload, 1) := by decide +kernel
theorem dL_law_328 : decode cL_law 328 = .ok (.invokevirtual 49, 3) := by decide +kernel
theorem dL_law_331 : decode cL_law 331 = .ok (.aload_n 2, 1) := by decide +kernel
theorem dL_law_332 : decode cL_law 332 = .ok (.aload_n 0, 1) := by decide +kernel
theorem dL_law_333 : decode cL_law 333 = .ok (.iload_n 3, 1) := by decide +kernel
theorem dL_law_334 : decode cL_law 334 = .ok (.iconst 1, 1) := by decide +kernel
theorem dL_law_335 : decode cL_law 335 = .ok (.iadd, 1) := by decide +kernel
theorem dL_law_336 : decode cL_law 336 = .ok (.iaload, 1) := by decide +kernel
theorem dL_law_337 : decode cL_law 337 = .ok (.invokevirtual 52, 3) := by decide +kernel
theorem dL_law_340 : decode cL_law 340 = .ok (.if_icmp .eq 133, 3) := by decide +kernel
theorem dL_law_343 : decode cL_law 343 = .ok (.iconst 0, 1) := by decide +kernel
theorem dL_law_344 : decode cL_law 344 = .ok (.ireturn, 1) := by decide +kernel
theorem dL_law_345 : decode cL_law 345 = .ok (.aload_n 1, 1) := by decide +kernel
theorem dL_law_346 : decode cL_law 346 = .ok (.invokevirtual 53, 3) := by decide +kernel
theorem dL_law_349 : decode cL_law 349 = .ok (.aload_n 2, 1) := by decide +kernel
theorem dL_law_350 : decode cL_law 350 = .ok (.invokevirtual 57, 3) := by decide +kernel
theorem dL_law_353 : decode cL_law 353 = .ok (.if_icmp .eq 120, 3) := by decide +kernel
theorem dL_law_356 : decode cL_law 356 = .ok (.iconst 0, 1) := by decide +kernel
theorem dL_law_357 : decode cL_law 357 = .ok (.ireturn, 1) := by decide +kernel
theorem dL_law_358 : decode cL_law 358 = .ok (.aload_n 1, 1) := by decide +kernel
theorem dL_law_359 : decode cL_law 359 = .ok (.aload_n 0, 1) := by decide +kernel
theorem dL_law_360 : decode cL_law 360 = .ok (.iload_n 3, 1) := by decide +kernel
theorem dL_law_361 : decode cL_law 361 = .ok (.iconst 1, 1) := by decide +kernel
theorem dL_law_362 : decode cL_law 362 = .ok (.iadd, 1) := by decide +kernel
theorem dL_law_363 : decode cL_law 363 = .ok (.iaload, 1) := by decide +kernel
theorem dL_law_364 : decode cL_law 364 = .ok (.invokevirtual 58, 3) := by decide +kernel
theorem dL_law_367 : decode cL_law 367 = .ok (.aload_n 2, 1) := by decide +kernel
theorem dL_law_368 : decode cL_law 368 = .ok (.aload_n 0, 1) := by decide +kernel
theorem dL_law_369 : decode cL_law 369 = .ok (.iload_n 3, 1) := by decide +kernel
theorem dL_law_370 : decode cL_law 370 = .ok (.iconst 1, 1) := by decide +kernel
theorem dL_law_371 : decode cL_law 371 = .ok (.iadd, 1) := by decide +kernel
theorem dL_law_372 : decode cL_law 372 = .ok (.iaload, 1) := by decide +kernel
theorem dL_law_373 : decode cL_law 373 = .ok (.invokevirtual 61, 3) := by decide +kernel
theorem dL_law_376 : decode cL_law 376 = .ok (.if_icmp .eq 97, 3) := by decide +kernel
theorem dL_law_379 : decode cL_law 379 = .ok (.iconst 0, 1) := by decide +kernel
theorem dL_law_380 : decode cL_law 380 = .ok (.ireturn, 1) := by decide +kernel
theorem dL_law_381 : decode cL_law 381 = .ok (.aload_n 1, 1) := by decide +kernel
theorem dL_law_382 : decode cL_law 382 = .ok (.aload_n 0, 1) := by decide +kernel
theorem dL_law_383 : decode cL_law 383 = .ok (.iload_n 3, 1) := by decide +kernel
theorem dL_law_384 : decode cL_law 384 = .ok (.iconst 1, 1) := by decide +kernel
theorem dL_law_385 : decode cL_law 385 = .ok (.iadd, 1) := by decide +kernel
theorem dL_law_386 : decode cL_law 386 = .ok (.iaload, 1) := by decide +kernel
theorem dL_law_387 : decode cL_law 387 = .ok (.invokevirtual 62, 3) := by decide +kernel
theorem dL_law_390 : decode cL_law 390 = .ok (.aload_n 2, 1) := by decide +kernel
theorem dL_law_391 : decode cL_law 391 = .ok (.aload_n 0, 1) := by decide +kernel
theorem dL_law_392 : decode cL_law 392 = .ok (.iload_n 3, 1) := by decide +kernel
theorem dL_law_393 : decode cL_law 393 = .ok (.iconst 1, 1) := by decide +kernel
theorem dL_law_394 : decode cL_law 394 = .ok (.iadd, 1) := by decide +kernel
theorem dL_law_395 : decode cL_law 395 = .ok (.iaload, 1) := by decide +kernel
theorem dL_law_396 : decode cL_law 396 = .ok (.invokevirtual 65, 3) := by decide +kernel
theorem dL_law_399 : decode cL_law 399 = .ok (.if_icmp .eq 74, 3) := by decide +kernel
theorem dL_law_402 : decode cL_law 402 = .ok (.iconst 0, 1) := by decide +kernel
theorem dL_law_403 : decode cL_law 403 = .ok (.ireturn, 1) := by decide +kernel
theorem dL_law_404 : decode cL_law 404 = .ok (.aload_n 1, 1) := by decide +kernel
theorem dL_law_405 : decode cL_law 405 = .ok (.aload_n 0, 1) := by decide +kernel
theorem dL_law_406 : decode cL_law 406 = .ok (.iload_n 3, 1) := by decide +kernel
theorem dL_law_407 : decode cL_law 407 = .ok (.iconst 1, 1) := by decide +kernel
theorem dL_law_408 : decode cL_law 408 = .ok (.iadd, 1) := by decide +kernel
theorem dL_law_409 : decode cL_law 409 = .ok (.iaload, 1) := by decide +kernel
theorem dL_law_410 : decode cL_law 410 = .ok (.invokevirtual 66, 3) := by decide +kernel
theorem dL_law_413 : decode cL_law 413 = .ok (.aload_n 2, 1) := by decide +kernel
theorem dL_law_414 : decode cL_law 414 = .ok (.aload_n 0, 1) := by decide +kernel
theorem dL_law_415 : decode cL_law 415 = .ok (.iload_n 3, 1) := by decide +kernel
theorem dL_law_416 : decode cL_law 416 = .ok (.iconst 1, 1) := by decide +kernel
theorem dL_law_417 : decode cL_law 417 = .ok (.iadd, 1) := by decide +kernel
theorem dL_law_418 : decode cL_law 418 = .ok (.iaload, 1) := by decide +kernel
theorem dL_law_419 : decode cL_law 419 = .ok (.invokevirtual 69, 3) := by decide +kernel
theorem dL_law_422 : decode cL_law 422 = .ok (.if_icmp .eq 51, 3) := by decide +kernel
theorem dL_law_425 : decode cL_law 425 = .ok (.iconst 0, 1) := by decide +kernel
theorem dL_law_426 : decode cL_law 426 = .ok (.ireturn, 1) := by decide +kernel
theorem dL_law_427 : decode cL_law 427 = .ok (.aload_n 1, 1) := by decide +kernel
theorem dL_law_428 : decode cL_law 428 = .ok (.aload_n 0, 1) := by decide +kernel
theorem dL_law_429 : decode cL_law 429 = .ok (.iload_n 3, 1) := by decide +kernel
theorem dL_law_430 : decode cL_law 430 = .ok (.iconst 1, 1) := by decide +kernel
theorem dL_law_431 : decode cL_law 431 = .ok (.iadd, 1) := by decide +kernel
theorem dL_law_432 : decode cL_law 432 = .ok (.iaload, 1) := by decide +kernel
theorem dL_law_433 : decode cL_law 433 = .ok (.invokevirtual 70, 3) := by decide +kernel
theorem dL_law_436 : decode cL_law 436 = .ok (.aload_n 2, 1) := by decide +kernel
theorem dL_law_437 : decode cL_law 437 = .ok (.aload_n 0, 1) := by decide +kernel
theorem dL_law_438 : decode cL_law 438 = .ok (.iload_n 3, 1) := by decide +kernel
theorem dL_law_439 : decode cL_law 439 = .ok (.iconst 1, 1) := by decide +kernel
theorem dL_law_440 : decode cL_law 440 = .ok (.iadd, 1) := by decide +kernel
theorem dL_law_441 : decode cL_law 441 = .ok (.iaload, 1) := by decide +kernel
theorem dL_law_442 : decode cL_law 442 = .ok (.invokevirtual 73, 3) := by decide +kernel
theorem dL_law_445 : decode cL_law 445 = .ok (.if_icmp .eq 28, 3) := by decide +kernel
theorem dL_law_448 : decode cL_law 448 = .ok (.iconst 0, 1) := by decide +kernel
theorem dL_law_449 : decode cL_law 449 = .ok (.ireturn, 1) := by decide +kernel
theorem dL_law_450 : decode cL_law 450 = .ok (.aload_n 1, 1) := by decide +kernel
theorem dL_law_451 : decode cL_law 451 = .ok (.aload_n 0, 1) := by decide +kernel
theorem dL_law_452 : decode cL_law 452 = .ok (.iload_n 3, 1) := by decide +kernel
theorem dL_law_453 : decode cL_law 453 = .ok (.iconst 1, 1) := by decide +kernel
theorem dL_law_454 : decode cL_law 454 = .ok (.iadd, 1) := by decide +kernel
theorem dL_law_455 : decode cL_law 455 = .ok (.iaload, 1) := by decide +kernel
theorem dL_law_456 : decode cL_law 456 = .ok (.invokevirtual 74, 3) := by decide +kernel
theorem dL_law_459 : decode cL_law 459 = .ok (.aload_n 2, 1) := by decide +kernel
theorem dL_law_460 : decode cL_law 460 = .ok (.aload_n 0, 1) := by decide +kernel
theorem dL_law_461 : decode cL_law 461 = .ok (.iload_n 3, 1) := by decide +kernel
theorem dL_law_462 : decode cL_law 462 = .ok (.iconst 1, 1) := by decide +kernel
theorem dL_law_463 : decode cL_law 463 = .ok (.iadd, 1) := by decide +kernel
theorem dL_law_464 : decode cL_law 464 = .ok (.iaload, 1) := by decide +kernel
theorem dL_law_465 : decode cL_law 465 = .ok (.invokevirtual 78, 3) := by decide +kernel
theorem dL_law_468 : decode cL_law 468 = .ok (.if_icmp .eq 5, 3) := by decide +kernel
theorem dL_law_471 : decode cL_law 471 = .ok (.iconst 0, 1) := by decide +kernel
theorem dL_law_472 : decode cL_law 472 = .ok (.ireturn, 1) := by decide +kernel
theorem dL_law_473 : decode cL_law 473 = .ok (.iinc 3 4, 3) := by decide +kernel
theorem dL_law_476 : decode cL_law 476 = .ok (.goto (-448), 3) := by decide +kernel
theorem dL_law_479 : decode cL_law 479 = .ok (.iconst 1, 1) := by decide +kernel
theorem dL_law_480 : decode cL_law 480 = .ok (.ireturn, 1) := by decide +kernel
end
section
/-! THE WORLD OF ONE OBJECT WITH ITS ARRAYS: rows for the instructions of its own methods, its methods' contracts and calls -/
set_option maxRecDepth 100000
abbrev vwCl : List vw_C := [(RX1, TX1, 13), (RX2, TX2, 4)]
abbrev FS : Type := Nat → Nat → Int32
/-- one place of one array written -/
def st_ (σ : FS) (k i : Nat) (x : Int32) : FS := fun a b => if a = k ∧ b = i then x else σ a b
theorem st_k (σ : FS) (k i : Nat) (x : Int32) : st_ σ k i x k = upd (σ k) i x := by
  funext b
  simp [st_, upd]
theorem st_o (σ : FS) {k a : Nat} (i : Nat) (x : Int32) (h : a ≠ k) : st_ σ k i x a = σ a := by
  funext b
  simp [st_, h]
theorem st_at (σ : FS) (k i : Nat) (x : Int32) : st_ σ k i x k i = x := by simp [st_]
theorem st_ne (σ : FS) {k a i b : Nat} (x : Int32) (h : a ≠ k ∨ b ≠ i) : st_ σ k i x a b = σ a b := by
  unfold st_
  rw [if_neg (by omega)]
abbrev KS : Type := List (Nat × FieldType)
def ob_as (h : Nat → Nat) (d : Nat → ClassId) (σ : FS) : Nat → KS → va_W
  | _, [] => []
  | i, q :: ks => (h i, .inl (d i, q.1, .inl (σ i))) :: ob_as h d σ (i + 1) ks
def ob_rf (h : Nat → Nat) : Nat → KS → List Value
  | _, [] => []
  | i, _ :: ks => .ref (h i) :: ob_rf h (i + 1) ks
def ob_t (d : Nat → ClassId) : Nat → KS → List (ClassId × FieldType)
  | _, [] => []
  | i, q :: ks => (d i, q.2) :: ob_t d (i + 1) ks
def ob_w (ci : Nat) (pre : List Value) (ks : KS) (h : Nat → Nat) (d : Nat → ClassId) (σ : FS) : va_W := (h 0, .inr (ci, pre ++ ob_rf h 1 ks)) :: ob_as h d σ 1 ks
/-- the array of number K: its length and its kind -/
def ob_k (ks : KS) : Nat → Option (Nat × FieldType)
  | 0 => none
  | k + 1 => ks[k]?
theorem ob_as_get (h : Nat → Nat) (d : Nat → ClassId) (σ : FS) : ∀ (ks : KS) (i k : Nat) (q : Nat × FieldType), ks[k]? = some q → (ob_as h d σ i ks)[k]? = some (h (i + k), .inl (d (i + k), q.1, .inl (σ (i + k))))
  | [], _, _, _, e => by simp at e
  | p :: ks, i, 0, q, e => by
    have : p = q := by simpa using e
    subst this
    rfl
  | p :: ks, i, k + 1, q, e => by
    have h1 := ob_as_get h d σ ks (i + 1) k q (by simpa using e)
    rw [show i + (k + 1) = i + 1 + k by omega]
    simpa [ob_as] using h1
theorem ob_as_cong (h : Nat → Nat) (d : Nat → ClassId) {σ τ : FS} : ∀ (ks : KS) (i : Nat), (∀ a, i ≤ a → σ a = τ a) → ob_as h d σ i ks = ob_as h d τ i ks
  | [], _, _ => rfl
  | p :: ks, i, e => by
    show _ :: _ = _ :: _
    rw [ob_as_cong h d ks (i + 1) (fun a ha => e a (by omega)), e i (Nat.le_refl i)]
theorem ob_as_set (h : Nat → Nat) (d : Nat → ClassId) (σ : FS) (j : Nat) (x : Int32) : ∀ (ks : KS) (i k : Nat) (q : Nat × FieldType), ks[k]? = some q → (ob_as h d σ i ks).set k (h (i + k), .inl (d (i + k), q.1, .inl (upd (σ (i + k)) j x))) = ob_as h d (st_ σ (i + k) j x) i ks
  | [], _, _, _, e => by simp at e
  | p :: ks, i, 0, q, e => by
    have : p = q := by simpa using e
    subst this
    show _ :: _ = _ :: _
    rw [ob_as_cong h d (σ := σ) (τ := st_ σ (i + 0) j x) ks (i + 1) (fun a ha => (st_o σ j x (by omega)).symm)]
    rw [show st_ σ (i + 0) j x i = upd (σ i) j x from st_k σ i j x]
    rfl
  | p :: ks, i, k + 1, q, e => by
    have h1 := ob_as_set h d σ j x ks (i + 1) k q (by simpa using e)
    rw [show i + (k + 1) = i + 1 + k by omega]
    show (h i, _) :: (ob_as h d σ (i + 1) ks).set k _ = (h i, _) :: ob_as h d _ (i + 1) ks
    rw [h1, st_o σ j x (show i ≠ i + 1 + k by omega)]
theorem ob_t_get (d : Nat → ClassId) : ∀ (ks : KS) (i k : Nat) (q : Nat × FieldType), ks[k]? = some q → (ob_t d i ks)[k]? = some (d (i + k), q.2)
  | [], _, _, _, e => by simp at e
  | p :: ks, i, 0, q, e => by
    have : p = q := by simpa using e
    subst this
    rfl
  | p :: ks, i, k + 1, q, e => by
    have h1 := ob_t_get d ks (i + 1) k q (by simpa using e)
    rw [show i + (k + 1) = i + 1 + k by omega]
    simpa [ob_t] using h1
theorem ob_w_get {ci : Nat} {pre : List Value} {ks : KS} {h : Nat → Nat} {d : Nat → ClassId} {σ : FS} {K n : Nat} {ty : FieldType} (hk : ob_k ks K = some (n, ty)) : (ob_w ci pre ks h d σ)[K]? = some (h K, .inl (d K, n, .inl (σ K))) := by
  cases K with
  | zero => cases hk
  | succ k =>
    have h1 := ob_as_get h d σ ks 1 k (n, ty) hk
    rw [show 1 + k = k + 1 by omega] at h1
    exact h1
theorem ob_w_set {ci : Nat} {pre : List Value} {ks : KS} {h : Nat → Nat} {d : Nat → ClassId} {σ : FS} {K n : Nat} {ty : FieldType} (hk : ob_k ks K = some (n, ty)) (j : Nat) (x : Int32) : (ob_w ci pre ks h d σ).set K (h K, .inl (d K, n, .inl (upd (σ K) j x))) = ob_w ci pre ks h d (st_ σ K j x) := by
  cases K with
  | zero => cases hk
  | succ k =>
    have h1 := ob_as_set h d σ j x ks 1 k (n, ty) hk
    rw [show 1 + k = k + 1 by omega] at h1
    show _ :: _ = _ :: _
    rw [← h1]
theorem ob_t_at {d : Nat → ClassId} {ks : KS} {K n : Nat} {ty : FieldType} (hk : ob_k ks K = some (n, ty)) : (ob_t d 1 ks)[K - 1]? = some (d K, ty) := by
  cases K with
  | zero => cases hk
  | succ k =>
    have h1 := ob_t_get d ks 1 k (n, ty) hk
    rw [show 1 + k = k + 1 by omega] at h1
    exact h1
def ob_I (D : va_G) (ci : Nat) (pre : List Value) (ks : KS) (h : Nat → Nat) (d : Nat → ClassId) (σ : FS) (A : Nat → Prop) (H0 H : Heap) (locs : List Loc) : Prop :=
  va_P D vwCl (ob_w ci pre ks h d σ) H ∧ va_D A (ob_w ci pre ks h d σ) ∧ va_S A H0 H locs
def ob_X (p : Program) (m : MethodId) (c : Code) (cc : ByteArray) (nL : Nat) (s : State) (args : Array Value) (C : String) (D : va_G) (d : Nat → ClassId) (ks : KS) : Prop :=
  CallFix p m c cc nL s args lw_all C ∧ va_K D vwCl (ob_t d 1 ks) s
def ob_P (D : va_G) (ci : Nat) (pre : List Value) (ks : KS) (h : Nat → Nat) (d : Nat → ClassId) (σ : FS) (sz : Nat) (U : State) : Prop :=
  U.heap.size = sz ∧ va_P D vwCl (ob_w ci pre ks h d σ) U.heap ∧ va_K D vwCl (ob_t d 1 ks) U ∧ va_D (fun _ => True) (ob_w ci pre ks h d σ)
def ob_B (D : va_G) (ci : Nat) (pre : List Value) (ks : KS) (h : Nat → Nat) (d : Nat → ClassId) (A : Nat → Prop) (σ : FS) (t : State) : Prop :=
  va_P D vwCl (ob_w ci pre ks h d σ) t.heap ∧ va_K D vwCl (ob_t d 1 ks) t ∧ va_D A (ob_w ci pre ks h d σ)
/-- the contract of an object's method that answers an int (or a boolean): from the arrays σ it comes to arrays σ' and an answer v with 'post v σ'' -/
def ob_Mi (l : Launch) (y : MethodName) (cc : ByteArray) (nL : Nat) (ret : Option FieldType) (rm : Room) (D : va_G) (ci : Nat) (pre : List Value) (ks : KS) (h : Nat → Nat) (d : Nat → ClassId) (σ : FS) (As : List Value) (post : Int32 → FS → Prop) : Prop :=
  ∀ sz : Nat, Met l y (ws_ y cc nL ret) rm (va_Pc (.ref (h 0) :: As) (ob_P D ci pre ks h d σ sz)) (va_Qi post (ob_B D ci pre ks h d (va_A (ob_w ci pre ks h d σ) sz)) (va_A (ob_w ci pre ks h d σ) sz)) 0 0 (va_A (ob_w ci pre ks h d σ) sz)
def ob_Mv (l : Launch) (y : MethodName) (cc : ByteArray) (nL : Nat) (rm : Room) (D : va_G) (ci : Nat) (pre : List Value) (ks : KS) (h : Nat → Nat) (d : Nat → ClassId) (σ : FS) (As : List Value) (post : FS → Prop) : Prop :=
  ∀ sz : Nat, Met l y (ws_ y cc nL none) rm (va_Pc (.ref (h 0) :: As) (ob_P D ci pre ks h d σ sz)) (va_Qv post (ob_B D ci pre ks h d (va_A (ob_w ci pre ks h d σ) sz)) (va_A (ob_w ci pre ks h d σ) sz)) 0 0 (va_A (ob_w ci pre ks h d σ) sz)
theorem ob_blind {D : va_G} {ci : Nat} {pre : List Value} {ks : KS} {h : Nat → Nat} {d : Nat → ClassId} {σ : FS} {sz : Nat} {av : List Value} : FrameBlind (va_Pc av (ob_P D ci pre ks h d σ sz)) := by
  intro a U g mk q
  obtain ⟨q0, q1, qP, qK, qD⟩ := q
  exact ⟨q0, q1, qP, va_K.moved (u := U) (U := U.calling g mk a) (Vm.Alike.refl U.vm) qK, qD⟩
theorem ob_freeA {ws : va_W} {A : Nat → Prop} {H0 H : Heap} {locs : List Loc} (hD : va_D A ws) (hS : va_S A H0 H locs) (hA : ∀ q, H0.size ≤ q → A q) : ∀ q, va_A ws H.size q → A q := by
  intro q hq
  rcases hq with ⟨k, e, hk⟩ | hq
  · exact hD.2 k (q, e) hk
  · exact hA q (Nat.le_trans hS.1 hq)
section OB1
variable {p : Program} {l : Launch} {e : Env} {R : Room} {s : State} {m : MethodId} {args : Array Value} {below : List Frame} {meth : Method} {c : Code} {H : Heap} {locs : List Loc} {cells slots : Nat} {Q : State → Prop}
variable {cc : ByteArray} {nL pc : Nat} {ls : Array Slot} {rest : List Value} {D : va_G} {C : String} {ci : Nat} {pre : List Value} {ks : KS} {h : Nat → Nat} {d : Nat → ClassId} {σ : FS} {A : Nat → Prop} {H0 : Heap}
theorem ob_ld (hX : ob_X p m c cc nL s args C D d ks) (hI : ob_I D ci pre ks h d σ A H0 H locs) (K : Nat) {n : Nat} (hk : ob_k ks K = some (n, .int)) (i : Nat) (hi : i < n) (hn : n < 2 ^ 31) (hdg : decode cc pc = .ok (.iaload, 1))
    (kk : W p l e R s m args below meth c H locs cells slots Q (F0 m (pc + 1) ls (.int (σ K i) :: rest))) : W p l e R s m args below meth c H locs cells slots Q (F0 m pc ls (.int (nI i) :: .ref (h K) :: rest)) := by
  refine va_iald hX.1.1 hX.1.2.1 hX.2 hI.1 K (K - 1) (ob_w_get hk) (ob_t_at hk) (vp_in_nI hi hn) hdg ?_
  rw [nI_clamp (by omega)]
  exact kk
theorem ob_zld (hX : ob_X p m c cc nL s args C D d ks) (hI : ob_I D ci pre ks h d σ A H0 H locs) (K : Nat) {n : Nat} (hk : ob_k ks K = some (n, .boolean)) (i : Nat) (hi : i < n) (hn : n < 2 ^ 31) (hdg : decode cc pc = .ok (.baload, 1))
    (kk : W p l e R s m args below meth c H locs cells slots Q (F0 m (pc + 1) ls (.int (σ K i) :: rest))) : W p l e R s m args below meth c H locs cells slots Q (F0 m pc ls (.int (nI i) :: .ref (h K) :: rest)) := by
  refine va_zald hX.1.1 hX.1.2.1 hX.2 hI.1 K (K - 1) (ob_w_get hk) (ob_t_at hk) (vp_in_nI hi hn) hdg ?_
  rw [nI_clamp (by omega)]
  exact kk
theorem ob_st (hX : ob_X p m c cc nL s args C D d ks) (hI : ob_I D ci pre ks h d σ A H0 H locs) (K : Nat) {n : Nat} (hk : ob_k ks K = some (n, .int)) (i : Nat) (hi : i < n) (hn : n < 2 ^ 31) {x : Int32} (hdg : decode cc pc = .ok (.iastore, 1))
    (kk : ∀ (H1 : Heap) (locs1 : List Loc), ob_I D ci pre ks h d (st_ σ K i x) A H0 H1 locs1 → W p l e R s m args below meth c H1 locs1 cells slots Q (F0 m (pc + 1) ls rest)) : W p l e R s m args below meth c H locs cells slots Q (F0 m pc ls (.int x :: .int (nI i) :: .ref (h K) :: rest)) := by
  refine va_iast hX.1.1 hX.1.2.1 hX.2 hI.1 hI.2.1 hI.2.2 K (K - 1) (ob_w_get hk) (ob_t_at hk) (vp_in_nI hi hn) hdg (fun H1 locs1 hP hD hS => kk H1 locs1 ?_)
  rw [nI_clamp (show i < 2 ^ 31 by omega), ob_w_set hk] at hP hD
  exact ⟨hP, hD, hS⟩
theorem ob_zst (hX : ob_X p m c cc nL s args C D d ks) (hI : ob_I D ci pre ks h d σ A H0 H locs) (K : Nat) {n : Nat} (hk : ob_k ks K = some (n, .boolean)) (i : Nat) (hi : i < n) (hn : n < 2 ^ 31) {x : Int32} (hx : vp_nar .boolean x = x) (hdg : decode cc pc = .ok (.bastore, 1))
    (kk : ∀ (H1 : Heap) (locs1 : List Loc), ob_I D ci pre ks h d (st_ σ K i x) A H0 H1 locs1 → W p l e R s m args below meth c H1 locs1 cells slots Q (F0 m (pc + 1) ls rest)) : W p l e R s m args below meth c H locs cells slots Q (F0 m pc ls (.int x :: .int (nI i) :: .ref (h K) :: rest)) := by
  refine va_zast hX.1.1 hX.1.2.1 hX.2 hI.1 hI.2.1 hI.2.2 K (K - 1) (ob_w_get hk) (ob_t_at hk) (vp_in_nI hi hn) hdg (fun H1 locs1 hP hD hS => kk H1 locs1 ?_)
  rw [nI_clamp (show i < 2 ^ 31 by omega), hx, ob_w_set hk] at hP hD
  exact ⟨hP, hD, hS⟩
/-- the top of the stack, in other words -/
theorem n_top {x y : Int32} (hxy : x = y) (kk : W p l e R s m args below meth c H locs cells slots Q (F0 m pc ls (.int y :: rest))) : W p l e R s m args below meth c H locs cells slots Q (F0 m pc ls (.int x :: rest)) := by
  rw [hxy]
  exact kk
theorem n_iadd (hx : p.tables.exec = Jvm.exec) (hb : c.code = cc) {a b : Nat} (hdg : decode cc pc = .ok (.iadd, 1)) (kk : W p l e R s m args below meth c H locs cells slots Q (F0 m (pc + 1) ls (.int (nI (a + b)) :: rest))) : W p l e R s m args below meth c H locs cells slots Q (F0 m pc ls (.int (nI b) :: .int (nI a) :: rest)) := by
  refine lv_iadd hx hb hdg ?_
  rw [nI_add]
  exact kk
theorem n_imul (hx : p.tables.exec = Jvm.exec) (hb : c.code = cc) {a b : Nat} (hdg : decode cc pc = .ok (.imul, 1)) (kk : W p l e R s m args below meth c H locs cells slots Q (F0 m (pc + 1) ls (.int (nI (a * b)) :: rest))) : W p l e R s m args below meth c H locs cells slots Q (F0 m pc ls (.int (nI b) :: .int (nI a) :: rest)) := by
  refine lv_imul hx hb hdg ?_
  rw [pk_mul]
  exact kk
theorem n_icmp_ge (hx : p.tables.exec = Jvm.exec) (hb : c.code = cc) {a b : Nat} {off : Int} {tgt : Nat} (hdg : decode cc pc = .ok (.if_icmp .ge off, 3)) (ht : (pc : Int) + off = (tgt : Int)) (ha : a < 2 ^ 31) (hb2 : b < 2 ^ 31)
    (kt : b ≤ a → W p l e R s m args below meth c H locs cells slots Q (F0 m tgt ls rest)) (kf : a < b → W p l e R s m args below meth c H locs cells slots Q (F0 m (pc + 3) ls rest)) : W p l e R s m args below meth c H locs cells slots Q (F0 m pc ls (.int (nI b) :: .int (nI a) :: rest)) := by
  refine lv_icmp_ge hx hb hdg ht (fun q => kt ((nI_leI hb2 ha).mp q)) (fun q => kf ?_)
  rcases Nat.lt_or_ge a b with z | z
  · exact z
  · exact absurd ((nI_leI hb2 ha).mpr z) q
theorem n_icmp_lt (hx : p.tables.exec = Jvm.exec) (hb : c.code = cc) {a b : Nat} {off : Int} {tgt : Nat} (hdg : decode cc pc = .ok (.if_icmp .lt off, 3)) (ht : (pc : Int) + off = (tgt : Int)) (ha : a < 2 ^ 31) (hb2 : b < 2 ^ 31)
    (kt : a < b → W p l e R s m args below meth c H locs cells slots Q (F0 m tgt ls rest)) (kf : b ≤ a → W p l e R s m args below meth c H locs cells slots Q (F0 m (pc + 3) ls rest)) : W p l e R s m args below meth c H locs cells slots Q (F0 m pc ls (.int (nI b) :: .int (nI a) :: rest)) := by
  refine lv_icmp_lt hx hb hdg ht (fun q => kt ((nI_ltI ha hb2).mp q)) (fun q => kf ?_)
  rcases Nat.lt_or_ge a b with z | z
  · exact absurd ((nI_ltI ha hb2).mpr z) q
  · exact z
theorem n_icmp_eq (hx : p.tables.exec = Jvm.exec) (hb : c.code = cc) {a b : Nat} {off : Int} {tgt : Nat} (hdg : decode cc pc = .ok (.if_icmp .eq off, 3)) (ht : (pc : Int) + off = (tgt : Int)) (ha : a < 2 ^ 31) (hb2 : b < 2 ^ 31)
    (kt : a = b → W p l e R s m args below meth c H locs cells slots Q (F0 m tgt ls rest)) (kf : a ≠ b → W p l e R s m args below meth c H locs cells slots Q (F0 m (pc + 3) ls rest)) : W p l e R s m args below meth c H locs cells slots Q (F0 m pc ls (.int (nI b) :: .int (nI a) :: rest)) :=
  lv_icmp_eq hx hb hdg ht (fun q => kt ((nI_eq ha hb2).mp q)) (fun q => kf (fun z => q ((nI_eq ha hb2).mpr z)))
/-- the locals, one more place read by its number -/
theorem n_iinc (hx : p.tables.exec = Jvm.exec) (hb : c.code = cc) {i nL k a : Nat} {lv lv' : List (Nat × Value)} (hdg : decode cc pc = .ok (.iinc i 1, 3)) (hl : lv_has ls nL lv) (hk : lv[k]? = some (i, .int (nI a))) (hn : i < nL) (hl2 : (i, Value.int (nI (a + 1))) :: lv.filter (fun q => !(q.1 == i) && !(q.1 + 1 == i && q.2.category == 2)) = lv')
    (kk : ∀ ls' : Array Slot, lv_has ls' nL lv' → W p l e R s m args below meth c H locs cells slots Q (F0 m (pc + 3) ls' rest)) : W p l e R s m args below meth c H locs cells slots Q (F0 m pc ls rest) :=
  lv_iinc hx hb hdg hl hk (nI_1 a) hn hl2 kk
/-- a call of one of the object's own methods that answers an int -/
theorem ob_calli {y : MethodName} {bytes : ByteArray} {maxL n idx : Nat} {ret : Option FieldType} {rm : Room} {As : List Value} {post : Int32 → FS → Prop} {T : u_T} {N : Nat} {stk : List Value}
    (hX : ob_X p m c cc nL s args C D d ks) (hA : ∀ q, s.heap.size ≤ q → A q) (hI : ob_I D ci pre ks h d σ A s.heap H locs) (hc : vwCl[ci]? = some (C, T, N)) (hM : ob_Mi l y bytes maxL ret rm D ci pre ks h d σ As post) (cw : CallW R s args C C idx y bytes maxL ret (ws_ y bytes maxL ret) rm 0 0 n) (hn : As.length = n) (hs : ls.size = nL)
    (hr : (rest.map fun v => v.category).sum ≤ 8) (hstk : stk = As.reverse ++ .ref (h 0) :: rest) (hdg : decode cc pc = .ok (.invokevirtual idx, 3))
    (kk : ∀ (v : Int32) (σ1 : FS) (H1 : Heap) (locs1 : List Loc), post v σ1 → ob_I D ci pre ks h d σ1 A s.heap H1 locs1 → W p l e R s m args below meth c H1 locs1 0 0 Q (F0 m (pc + 3) ls (.int v :: rest))) : W p l e R s m args below meth c H locs 0 0 Q (F0 m pc ls stk) := by
  have hFc := ob_freeA hI.2.1 hI.2.2 hA
  refine va_calli (va_runV (As := As) (rest := rest) hX.1 (hM H.size) cw ⟨ob_blind, va_recv hX.2 hI.1 (ci := ci) (q0 := 0) hc rfl, fun U hU hW => ⟨rfl, by rw [hU], by rw [hU]; exact hI.1, va_K.moved hW.alike hX.2, hI.2.1.weaken (fun _ _ _ _ => trivial)⟩⟩ rfl hn hs hstk (lv_room hr) hdg ⟨Nat.zero_le _, Nat.zero_le _⟩) hI.2.2 (fun q _ hq => hFc q hq) hFc (fun v u t H1 locs1 ht hvm hw hB hz hk hS => ?_)
  obtain ⟨hP1, hK1, hD1⟩ := hB
  rw [ht] at hP1
  exact kk v u H1 locs1 hw ⟨hP1, hD1.weaken (fun k q _ hq => hFc q.1 hq), hS⟩
theorem ob_callv {y : MethodName} {bytes : ByteArray} {maxL n idx : Nat} {rm : Room} {As : List Value} {post : FS → Prop} {T : u_T} {N : Nat} {stk : List Value}
    (hX : ob_X p m c cc nL s args C D d ks) (hA : ∀ q, s.heap.size ≤ q → A q) (hI : ob_I D ci pre ks h d σ A s.heap H locs) (hc : vwCl[ci]? = some (C, T, N)) (hM : ob_Mv l y bytes maxL rm D ci pre ks h d σ As post) (cw : CallW R s args C C idx y bytes maxL none (ws_ y bytes maxL none) rm 0 0 n) (hn : As.length = n) (hs : ls.size = nL)
    (hr : (rest.map fun v => v.category).sum ≤ 8) (hstk : stk = As.reverse ++ .ref (h 0) :: rest) (hdg : decode cc pc = .ok (.invokevirtual idx, 3))
    (kk : ∀ (σ1 : FS) (H1 : Heap) (locs1 : List Loc), post σ1 → ob_I D ci pre ks h d σ1 A s.heap H1 locs1 → W p l e R s m args below meth c H1 locs1 0 0 Q (F0 m (pc + 3) ls rest)) : W p l e R s m args below meth c H locs 0 0 Q (F0 m pc ls stk) := by
  have hFc := ob_freeA hI.2.1 hI.2.2 hA
  refine va_callv (va_runV (As := As) (rest := rest) hX.1 (hM H.size) cw ⟨ob_blind, va_recv hX.2 hI.1 (ci := ci) (q0 := 0) hc rfl, fun U hU hW => ⟨rfl, by rw [hU], by rw [hU]; exact hI.1, va_K.moved hW.alike hX.2, hI.2.1.weaken (fun _ _ _ _ => trivial)⟩⟩ rfl hn hs hstk (lv_room hr) hdg ⟨Nat.zero_le _, Nat.zero_le _⟩) hI.2.2 (fun q _ hq => hFc q hq) hFc (fun u t H1 locs1 ht hvm hw hB hz hk hS => ?_)
  obtain ⟨hP1, hK1, hD1⟩ := hB
  rw [ht] at hP1
  exact kk u H1 locs1 hw ⟨hP1, hD1.weaken (fun k q _ hq => hFc q.1 hq), hS⟩
/-- a static method that reads its ints alone -/
def ob_Ms (l : Launch) (y : MethodName) (cc : ByteArray) (nL : Nat) (ret : Option FieldType) (rm : Room) (As : List Value) (post : Int32 → Prop) : Prop := Met l y (ws_ y cc nL ret) rm (fun v _ => v = As.toArray) (vp_Si post) 0 0 (fun _ => False)
theorem ob_calls {y : MethodName} {bytes : ByteArray} {maxL n idx : Nat} {ret : Option FieldType} {rm : Room} {As : List Value} {post : Int32 → Prop} {stk : List Value}
    (hX : ob_X p m c cc nL s args C D d ks) (hM : ob_Ms l y bytes maxL ret rm As post) (cw : CallB R s args C idx y bytes maxL ret (ws_ y bytes maxL ret) rm 0 0 n ∧ (Cond.static y).before args s = true) (hn : As.length = n) (hs : ls.size = nL)
    (hr : (rest.map fun v => v.category).sum ≤ 8) (hstk : stk = As.reverse ++ rest) (hdg : decode cc pc = .ok (.invokestatic idx, 3))
    (kk : ∀ v : Int32, post v → W p l e R s m args below meth c H locs 0 0 Q (F0 m (pc + 3) ls (.int v :: rest))) : W p l e R s m args below meth c H locs 0 0 Q (F0 m pc ls stk) :=
  vp_callSi (W.runS (As := As) (rest := rest) hX.1 hM cw ⟨fun _ _ _ _ q => q, fun _ _ _ => rfl⟩ rfl hn hs hstk (lv_room hr) hdg ⟨Nat.zero_le _, Nat.zero_le _⟩) kk
end OB1
/-- a method that answers an int, from its walk -/
theorem ob_ofWi {l : Launch} {y : MethodName} {cc : ByteArray} {nL : Nat} {rm : Room} {D : va_G} {ci : Nat} {pre : List Value} {ks : KS} {h : Nat → Nat} {d : Nat → ClassId} {σ : FS} {As : List Value} {post : Int32 → FS → Prop} {C : String} (hy : plainName y.cls = true) (hC : y.cls = C) (hlen : (lg_sl (.ref (h 0) :: As)).length ≤ nL)
    (body : ∀ (p : Program) (e : Env) (s : State) (m : MethodId) (args : Array Value) (below : List Frame) (meth : Method) (c : Code) (A : Nat → Prop) (Q : State → Prop) (ls : Array Slot), ob_X p m c cc nL s args C D d ks → (∀ q, s.heap.size ≤ q → A q) → ob_I D ci pre ks h d σ A s.heap s.heap [] →
      (∀ (v : Int32) (σ1 : FS) (H : Heap) (locs : List Loc) (pc : Nat) (ls : Array Slot), post v σ1 → ob_I D ci pre ks h d σ1 A s.heap H locs → decode cc pc = .ok (.ireturn, 1) → W p l e rm s m args below meth c H locs 0 0 Q (F0 m pc ls [.int v])) →
      lv_has ls nL (lv_args 0 (.ref (h 0) :: As)) → W p l e rm s m args below meth c s.heap [] 0 0 Q (F0 m 0 ls [])) : ob_Mi l y cc nL (some .int) rm D ci pre ks h d σ As post := by
  intro sz
  refine Met.ofW (cc := cc) (maxL := nL) (ret := some .int) hy rfl ?_
  intro p e s m args below meth c s₁ B hml hv
  obtain ⟨rfl, hsz, hP, hK, hD0⟩ := hv
  have hx := B.exec
  have hb := B.bytes
  have hr := B.returns
  have hts := atoms_spec (ws := ws_ y cc nL (some .int)) B.pre
  have hts : ∀ w ∈ lw_all, w.before _ s = true := fun w hw => hts w (List.mem_cons_of_mem _ hw)
  have hown : s.vm.findClass C = some m.cls := by rw [← hC]; exact findClass_of_methodNamed B.named
  have hlocks := B.notSynchronized
  subst hsz
  have hD := hD0.self (sz := s.heap.size)
  have hl := lv_entry (.ref (h 0) :: As) (n := nL) hlen
  rw [lg_entry_eq]
  refine body p e s m _ below meth c (va_A (ob_w ci pre ks h d σ) s.heap.size) _ _ ⟨⟨hx, hb, hml, hown, hts⟩, hK⟩ (fun q hq => Or.inr hq) ⟨hP, hD, va_S.rf⟩ ?_ hl
  intro v σ1 H locs pc ls hp hI hdg
  exact W.iret (v := v) hx hb hr (fun t ht hW => ⟨⟨v, σ1, rfl, hp, by rw [ht]; exact hI.1, va_K.moved hW.alike hK, hI.2.1⟩, hI.2.2.F ht⟩) hI.2.2.2.2 hdg
theorem ob_ofWz {l : Launch} {y : MethodName} {cc : ByteArray} {nL : Nat} {rm : Room} {D : va_G} {ci : Nat} {pre : List Value} {ks : KS} {h : Nat → Nat} {d : Nat → ClassId} {σ : FS} {As : List Value} {post : Int32 → FS → Prop} {C : String} (hy : plainName y.cls = true) (hC : y.cls = C) (hlen : (lg_sl (.ref (h 0) :: As)).length ≤ nL)
    (body : ∀ (p : Program) (e : Env) (s : State) (m : MethodId) (args : Array Value) (below : List Frame) (meth : Method) (c : Code) (A : Nat → Prop) (Q : State → Prop) (ls : Array Slot), ob_X p m c cc nL s args C D d ks → (∀ q, s.heap.size ≤ q → A q) → ob_I D ci pre ks h d σ A s.heap s.heap [] →
      (∀ (v : Int32) (σ1 : FS) (H : Heap) (locs : List Loc) (pc : Nat) (ls : Array Slot), narrow .boolean (.int v) = .int v → post v σ1 → ob_I D ci pre ks h d σ1 A s.heap H locs → decode cc pc = .ok (.ireturn, 1) → W p l e rm s m args below meth c H locs 0 0 Q (F0 m pc ls [.int v])) →
      lv_has ls nL (lv_args 0 (.ref (h 0) :: As)) → W p l e rm s m args below meth c s.heap [] 0 0 Q (F0 m 0 ls [])) : ob_Mi l y cc nL (some .boolean) rm D ci pre ks h d σ As post := by
  intro sz
  refine Met.ofW (cc := cc) (maxL := nL) (ret := some .boolean) hy rfl ?_
  intro p e s m args below meth c s₁ B hml hv
  obtain ⟨rfl, hsz, hP, hK, hD0⟩ := hv
  have hx := B.exec
  have hb := B.bytes
  have hr := B.returns
  have hts := atoms_spec (ws := ws_ y cc nL (some .boolean)) B.pre
  have hts : ∀ w ∈ lw_all, w.before _ s = true := fun w hw => hts w (List.mem_cons_of_mem _ hw)
  have hown : s.vm.findClass C = some m.cls := by rw [← hC]; exact findClass_of_methodNamed B.named
  have hlocks := B.notSynchronized
  subst hsz
  have hD := hD0.self (sz := s.heap.size)
  have hl := lv_entry (.ref (h 0) :: As) (n := nL) hlen
  rw [lg_entry_eq]
  refine body p e s m _ below meth c (va_A (ob_w ci pre ks h d σ) s.heap.size) _ _ ⟨⟨hx, hb, hml, hown, hts⟩, hK⟩ (fun q hq => Or.inr hq) ⟨hP, hD, va_S.rf⟩ ?_ hl
  intro v σ1 H locs pc ls hn hp hI hdg
  exact W.zret (v := v) hx hb hr hn (fun t ht hW => ⟨⟨v, σ1, rfl, hp, by rw [ht]; exact hI.1, va_K.moved hW.alike hK, hI.2.1⟩, hI.2.2.F ht⟩) hI.2.2.2.2 hdg
theorem ob_ofWv {l : Launch} {y : MethodName} {cc : ByteArray} {nL : Nat} {rm : Room} {D : va_G} {ci : Nat} {pre : List Value} {ks : KS} {h : Nat → Nat} {d : Nat → ClassId} {σ : FS} {As : List Value} {post : FS → Prop} {C : String} (hy : plainName y.cls = true) (hC : y.cls = C) (hlen : (lg_sl (.ref (h 0) :: As)).length ≤ nL)
    (body : ∀ (p : Program) (e : Env) (s : State) (m : MethodId) (args : Array Value) (below : List Frame) (meth : Method) (c : Code) (A : Nat → Prop) (Q : State → Prop) (ls : Array Slot), ob_X p m c cc nL s args C D d ks → (∀ q, s.heap.size ≤ q → A q) → ob_I D ci pre ks h d σ A s.heap s.heap [] →
      (∀ (σ1 : FS) (H : Heap) (locs : List Loc) (pc : Nat) (ls : Array Slot), post σ1 → ob_I D ci pre ks h d σ1 A s.heap H locs → decode cc pc = .ok (.return_, 1) → W p l e rm s m args below meth c H locs 0 0 Q (F0 m pc ls [])) →
      lv_has ls nL (lv_args 0 (.ref (h 0) :: As)) → W p l e rm s m args below meth c s.heap [] 0 0 Q (F0 m 0 ls [])) : ob_Mv l y cc nL rm D ci pre ks h d σ As post := by
  intro sz
  refine Met.ofW (cc := cc) (maxL := nL) (ret := none) hy rfl ?_
  intro p e s m args below meth c s₁ B hml hv
  obtain ⟨rfl, hsz, hP, hK, hD0⟩ := hv
  have hx := B.exec
  have hb := B.bytes
  have hr := B.returns
  have hts := atoms_spec (ws := ws_ y cc nL none) B.pre
  have hts : ∀ w ∈ lw_all, w.before _ s = true := fun w hw => hts w (List.mem_cons_of_mem _ hw)
  have hown : s.vm.findClass C = some m.cls := by rw [← hC]; exact findClass_of_methodNamed B.named
  have hlocks := B.notSynchronized
  subst hsz
  have hD := hD0.self (sz := s.heap.size)
  have hl := lv_entry (.ref (h 0) :: As) (n := nL) hlen
  rw [lg_entry_eq]
  refine body p e s m _ below meth c (va_A (ob_w ci pre ks h d σ) s.heap.size) _ _ ⟨⟨hx, hb, hml, hown, hts⟩, hK⟩ (fun q hq => Or.inr hq) ⟨hP, hD, va_S.rf⟩ ?_ hl
  intro σ1 H locs pc ls hp hI hdg
  exact W.vret hx hb hr (fun t ht hW => ⟨⟨σ1, rfl, hp, by rw [ht]; exact hI.1, va_K.moved hW.alike hK, hI.2.1⟩, hI.2.2.F ht⟩) hI.2.2.2.2 hdg
/-- a static method of ints alone, from its walk -/
theorem ob_ofWs {l : Launch} {y : MethodName} {cc : ByteArray} {nL : Nat} {rm : Room} {As : List Value} {post : Int32 → Prop} (hy : plainName y.cls = true) (hlen : (lg_sl As).length ≤ nL)
    (body : ∀ (p : Program) (e : Env) (s : State) (m : MethodId) (args : Array Value) (below : List Frame) (meth : Method) (c : Code) (Q : State → Prop) (ls : Array Slot), p.tables.exec = Jvm.exec → c.code = cc →
      (∀ (v : Int32) (pc : Nat) (ls : Array Slot), narrow .boolean (.int v) = .int v → post v → decode cc pc = .ok (.ireturn, 1) → W p l e rm s m args below meth c s.heap [] 0 0 Q (F0 m pc ls [.int v])) →
      lv_has ls nL (lv_args 0 As) → W p l e rm s m args below meth c s.heap [] 0 0 Q (F0 m 0 ls [])) : ob_Ms l y cc nL (some .boolean) rm As post := by
  refine Met.ofW (cc := cc) (maxL := nL) (ret := some .boolean) hy rfl ?_
  intro p e s m args below meth c s₁ B hml hv
  subst hv
  have hx := B.exec
  have hb := B.bytes
  have hr := B.returns
  have hlocks := B.notSynchronized
  have hl := lv_entry As (n := nL) hlen
  rw [lg_entry_eq]
  refine body p e s m _ below meth c _ _ hx hb ?_ hl
  intro v pc ls hn hp hdg
  exact W.zret (v := v) hx hb hr hn (fun t ht hW => ⟨v, rfl, hp, ht⟩) (fun q hq => by cases hq) hdg
end
section
/-! the two classes: their arrays, reading of a field, the words of the calls, the rooms of the methods -/
set_option maxRecDepth 100000
abbrev fsKs : KS := [(3, .boolean), (16, .int), (3, .int), (48, .int), (48, .int), (3, .int), (3, .boolean), (48, .int), (24, .int), (24, .int), (24, .boolean), (3, .int)]
abbrev mdKs : KS := [(16, .int), (16, .int), (16, .int), (3, .boolean)]
section GETS
variable {p : Program} {l : Launch} {e : Env} {R : Room} {s : State} {m : MethodId} {args : Array Value} {below : List Frame} {meth : Method} {c : Code} {H : Heap} {locs : List Loc} {cells slots : Nat} {Q : State → Prop}
variable {cc : ByteArray} {nL pc : Nat} {ls : Array Slot} {rest : List Value} {D : va_G} {h : Nat → Nat} {d : Nat → ClassId} {σ : FS} {A : Nat → Prop} {H0 : Heap} {r : Int32}
theorem fs_g0 (hX : ob_X p m c cc nL s args RX1 D d fsKs) (hI : ob_I D 0 [.int r] fsKs h d σ A H0 H locs) (hdg : decode cc pc = .ok (.getfield 47, 3)) (kk : W p l e R s m args below meth c H locs cells slots Q (F0 m (pc + 3) ls (.int r :: rest))) : W p l e R s m args below meth c H locs cells slots Q (F0 m pc ls (.ref (h 0) :: rest)) :=
  va_get (D := D) (ci := 0) (v := .int r) (C := RX1) (T := TX1) (N := 13) hX.1.1 hX.1.2.1 hX.1.2.2.2.2 in_X1 hX.1.2.2.2.1 hX.2 hI.1 0 rfl rfl 0 (by decide) (hX.1.2.2.2.2 _ q38) (fun _ h9 => h9) rfl hdg kk
theorem fs_g1 (hX : ob_X p m c cc nL s args RX1 D d fsKs) (hI : ob_I D 0 [.int r] fsKs h d σ A H0 H locs) (hdg : decode cc pc = .ok (.getfield 7, 3)) (kk : W p l e R s m args below meth c H locs cells slots Q (F0 m (pc + 3) ls (.ref (h 1) :: rest))) : W p l e R s m args below meth c H locs cells slots Q (F0 m pc ls (.ref (h 0) :: rest)) :=
  va_get (D := D) (ci := 0) (v := .ref (h 1)) (C := RX1) (T := TX1) (N := 13) hX.1.1 hX.1.2.1 hX.1.2.2.2.2 in_X1 hX.1.2.2.2.1 hX.2 hI.1 0 rfl rfl 1 (by decide) (hX.1.2.2.2.2 _ q39) (fun _ h9 => h9) rfl hdg kk
theorem fs_g2 (hX : ob_X p m c cc nL s args RX1 D d fsKs) (hI : ob_I D 0 [.int r] fsKs h d σ A H0 H locs) (hdg : decode cc pc = .ok (.getfield 13, 3)) (kk : W p l e R s m args below meth c H locs cells slots Q (F0 m (pc + 3) ls (.ref (h 2) :: rest))) : W p l e R s m args below meth c H locs cells slots Q (F0 m pc ls (.ref (h 0) :: rest)) :=
  va_get (D := D) (ci := 0) (v := .ref (h 2)) (C := RX1) (T := TX1) (N := 13) hX.1.1 hX.1.2.1 hX.1.2.2.2.2 in_X1 hX.1.2.2.2.1 hX.2 hI.1 0 rfl rfl 2 (by decide) (hX.1.2.2.2.2 _ q40) (fun _ h9 => h9) rfl hdg kk
theorem fs_g3 (hX : ob_X p m c cc nL s args RX1 D d fsKs) (hI : ob_I D 0 [.int r] fsKs h d σ A H0 H locs) (hdg : decode cc pc = .ok (.getfield 17, 3)) (kk : W p l e R s m args below meth c H locs cells slots Q (F0 m (pc + 3) ls (.ref (h 3) :: rest))) : W p l e R s m args below meth c H locs cells slots Q (F0 m pc ls (.ref (h 0) :: rest)) :=
  va_get (D := D) (ci := 0) (v := .ref (h 3)) (C := RX1) (T := TX1) (N := 13) hX.1.1 hX.1.2.1 hX.1.2.2.2.2 in_X1 hX.1.2.2.2.1 hX.2 hI.1 0 rfl rfl 3 (by decide) (hX.1.2.2.2.2 _ q41) (fun _ h9 => h9) rfl hdg kk
theorem fs_g4 (hX : ob_X p m c cc nL s args RX1 D d fsKs) (hI : ob_I D 0 [.int r] fsKs h d σ A H0 H locs) (hdg : decode cc pc = .ok (.getfield 20, 3)) (kk : W p l e R s m args below meth c H locs cells slots Q (F0 m (pc + 3) ls (.ref (h 4) :: rest))) : W p l e R s m args below meth c H locs cells slots Q (F0 m pc ls (.ref (h 0) :: rest)) :=
  va_get (D := D) (ci := 0) (v := .ref (h 4)) (C := RX1) (T := TX1) (N := 13) hX.1.1 hX.1.2.1 hX.1.2.2.2.2 in_X1 hX.1.2.2.2.1 hX.2 hI.1 0 rfl rfl 4 (by decide) (hX.1.2.2.2.2 _ q42) (fun _ h9 => h9) rfl hdg kk
theorem fs_g5 (hX : ob_X p m c cc nL s args RX1 D d fsKs) (hI : ob_I D 0 [.int r] fsKs h d σ A H0 H locs) (hdg : decode cc pc = .ok (.getfield 23, 3)) (kk : W p l e R s m args below meth c H locs cells slots Q (F0 m (pc + 3) ls (.ref (h 5) :: rest))) : W p l e R s m args below meth c H locs cells slots Q (F0 m pc ls (.ref (h 0) :: rest)) :=
  va_get (D := D) (ci := 0) (v := .ref (h 5)) (C := RX1) (T := TX1) (N := 13) hX.1.1 hX.1.2.1 hX.1.2.2.2.2 in_X1 hX.1.2.2.2.1 hX.2 hI.1 0 rfl rfl 5 (by decide) (hX.1.2.2.2.2 _ q43) (fun _ h9 => h9) rfl hdg kk
theorem fs_g6 (hX : ob_X p m c cc nL s args RX1 D d fsKs) (hI : ob_I D 0 [.int r] fsKs h d σ A H0 H locs) (hdg : decode cc pc = .ok (.getfield 26, 3)) (kk : W p l e R s m args below meth c H locs cells slots Q (F0 m (pc + 3) ls (.ref (h 6) :: rest))) : W p l e R s m args below meth c H locs cells slots Q (F0 m pc ls (.ref (h 0) :: rest)) :=
  va_get (D := D) (ci := 0) (v := .ref (h 6)) (C := RX1) (T := TX1) (N := 13) hX.1.1 hX.1.2.1 hX.1.2.2.2.2 in_X1 hX.1.2.2.2.1 hX.2 hI.1 0 rfl rfl 6 (by decide) (hX.1.2.2.2.2 _ q44) (fun _ h9 => h9) rfl hdg kk
theorem fs_g7 (hX : ob_X p m c cc nL s args RX1 D d fsKs) (hI : ob_I D 0 [.int r] fsKs h d σ A H0 H locs) (hdg : decode cc pc = .ok (.getfield 29, 3)) (kk : W p l e R s m args below meth c H locs cells slots Q (F0 m (pc + 3) ls (.ref (h 7) :: rest))) : W p l e R s m args below meth c H locs cells slots Q (F0 m pc ls (.ref (h 0) :: rest)) :=
  va_get (D := D) (ci := 0) (v := .ref (h 7)) (C := RX1) (T := TX1) (N := 13) hX.1.1 hX.1.2.1 hX.1.2.2.2.2 in_X1 hX.1.2.2.2.1 hX.2 hI.1 0 rfl rfl 7 (by decide) (hX.1.2.2.2.2 _ q45) (fun _ h9 => h9) rfl hdg kk
theorem fs_g8 (hX : ob_X p m c cc nL s args RX1 D d fsKs) (hI : ob_I D 0 [.int r] fsKs h d σ A H0 H locs) (hdg : decode cc pc = .ok (.getfield 32, 3)) (kk : W p l e R s m args below meth c H locs cells slots Q (F0 m (pc + 3) ls (.ref (h 8) :: rest))) : W p l e R s m args below meth c H locs cells slots Q (F0 m pc ls (.ref (h 0) :: rest)) :=
  va_get (D := D) (ci := 0) (v := .ref (h 8)) (C := RX1) (T := TX1) (N := 13) hX.1.1 hX.1.2.1 hX.1.2.2.2.2 in_X1 hX.1.2.2.2.1 hX.2 hI.1 0 rfl rfl 8 (by decide) (hX.1.2.2.2.2 _ q46) (fun _ h9 => h9) rfl hdg kk
theorem fs_g9 (hX : ob_X p m c cc nL s args RX1 D d fsKs) (hI : ob_I D 0 [.int r] fsKs h d σ A H0 H locs) (hdg : decode cc pc = .ok (.getfield 35, 3)) (kk : W p l e R s m args below meth c H locs cells slots Q (F0 m (pc + 3) ls (.ref (h 9) :: rest))) : W p l e R s m args below meth c H locs cells slots Q (F0 m pc ls (.ref (h 0) :: rest)) :=
  va_get (D := D) (ci := 0) (v := .ref (h 9)) (C := RX1) (T := TX1) (N := 13) hX.1.1 hX.1.2.1 hX.1.2.2.2.2 in_X1 hX.1.2.2.2.1 hX.2 hI.1 0 rfl rfl 9 (by decide) (hX.1.2.2.2.2 _ q47) (fun _ h9 => h9) rfl hdg kk
theorem fs_g10 (hX : ob_X p m c cc nL s args RX1 D d fsKs) (hI : ob_I D 0 [.int r] fsKs h d σ A H0 H locs) (hdg : decode cc pc = .ok (.getfield 38, 3)) (kk : W p l e R s m args below meth c H locs cells slots Q (F0 m (pc + 3) ls (.ref (h 10) :: rest))) : W p l e R s m args below meth c H locs cells slots Q (F0 m pc ls (.ref (h 0) :: rest)) :=
  va_get (D := D) (ci := 0) (v := .ref (h 10)) (C := RX1) (T := TX1) (N := 13) hX.1.1 hX.1.2.1 hX.1.2.2.2.2 in_X1 hX.1.2.2.2.1 hX.2 hI.1 0 rfl rfl 10 (by decide) (hX.1.2.2.2.2 _ q48) (fun _ h9 => h9) rfl hdg kk
theorem fs_g11 (hX : ob_X p m c cc nL s args RX1 D d fsKs) (hI : ob_I D 0 [.int r] fsKs h d σ A H0 H locs) (hdg : decode cc pc = .ok (.getfield 41, 3)) (kk : W p l e R s m args below meth c H locs cells slots Q (F0 m (pc + 3) ls (.ref (h 11) :: rest))) : W p l e R s m args below meth c H locs cells slots Q (F0 m pc ls (.ref (h 0) :: rest)) :=
  va_get (D := D) (ci := 0) (v := .ref (h 11)) (C := RX1) (T := TX1) (N := 13) hX.1.1 hX.1.2.1 hX.1.2.2.2.2 in_X1 hX.1.2.2.2.1 hX.2 hI.1 0 rfl rfl 11 (by decide) (hX.1.2.2.2.2 _ q49) (fun _ h9 => h9) rfl hdg kk
theorem fs_g12 (hX : ob_X p m c cc nL s args RX1 D d fsKs) (hI : ob_I D 0 [.int r] fsKs h d σ A H0 H locs) (hdg : decode cc pc = .ok (.getfield 44, 3)) (kk : W p l e R s m args below meth c H locs cells slots Q (F0 m (pc + 3) ls (.ref (h 12) :: rest))) : W p l e R s m args below meth c H locs cells slots Q (F0 m pc ls (.ref (h 0) :: rest)) :=
  va_get (D := D) (ci := 0) (v := .ref (h 12)) (C := RX1) (T := TX1) (N := 13) hX.1.1 hX.1.2.1 hX.1.2.2.2.2 in_X1 hX.1.2.2.2.1 hX.2 hI.1 0 rfl rfl 12 (by decide) (hX.1.2.2.2.2 _ q50) (fun _ h9 => h9) rfl hdg kk
theorem md_g1 (hX : ob_X p m c cc nL s args RX2 D d mdKs) (hI : ob_I D 1 [] mdKs h d σ A H0 H locs) (hdg : decode cc pc = .ok (.getfield 7, 3)) (kk : W p l e R s m args below meth c H locs cells slots Q (F0 m (pc + 3) ls (.ref (h 1) :: rest))) : W p l e R s m args below meth c H locs cells slots Q (F0 m pc ls (.ref (h 0) :: rest)) :=
  va_get (D := D) (ci := 1) (v := .ref (h 1)) (C := RX2) (T := TX2) (N := 4) hX.1.1 hX.1.2.1 hX.1.2.2.2.2 in_X2 hX.1.2.2.2.1 hX.2 hI.1 0 rfl rfl 0 (by decide) (hX.1.2.2.2.2 _ q235) (fun _ h9 => h9) rfl hdg kk
theorem md_g2 (hX : ob_X p m c cc nL s args RX2 D d mdKs) (hI : ob_I D 1 [] mdKs h d σ A H0 H locs) (hdg : decode cc pc = .ok (.getfield 13, 3)) (kk : W p l e R s m args below meth c H locs cells slots Q (F0 m (pc + 3) ls (.ref (h 2) :: rest))) : W p l e R s m args below meth c H locs cells slots Q (F0 m pc ls (.ref (h 0) :: rest)) :=
  va_get (D := D) (ci := 1) (v := .ref (h 2)) (C := RX2) (T := TX2) (N := 4) hX.1.1 hX.1.2.1 hX.1.2.2.2.2 in_X2 hX.1.2.2.2.1 hX.2 hI.1 0 rfl rfl 1 (by decide) (hX.1.2.2.2.2 _ q236) (fun _ h9 => h9) rfl hdg kk
theorem md_g3 (hX : ob_X p m c cc nL s args RX2 D d mdKs) (hI : ob_I D 1 [] mdKs h d σ A H0 H locs) (hdg : decode cc pc = .ok (.getfield 16, 3)) (kk : W p l e R s m args below meth c H locs cells slots Q (F0 m (pc + 3) ls (.ref (h 3) :: rest))) : W p l e R s m args below meth c H locs cells slots Q (F0 m pc ls (.ref (h 0) :: rest)) :=
  va_get (D := D) (ci := 1) (v := .ref (h 3)) (C := RX2) (T := TX2) (N := 4) hX.1.1 hX.1.2.1 hX.1.2.2.2.2 in_X2 hX.1.2.2.2.1 hX.2 hI.1 0 rfl rfl 2 (by decide) (hX.1.2.2.2.2 _ q237) (fun _ h9 => h9) rfl hdg kk
theorem md_g4 (hX : ob_X p m c cc nL s args RX2 D d mdKs) (hI : ob_I D 1 [] mdKs h d σ A H0 H locs) (hdg : decode cc pc = .ok (.getfield 19, 3)) (kk : W p l e R s m args below meth c H locs cells slots Q (F0 m (pc + 3) ls (.ref (h 4) :: rest))) : W p l e R s m args below meth c H locs cells slots Q (F0 m pc ls (.ref (h 0) :: rest)) :=
  va_get (D := D) (ci := 1) (v := .ref (h 4)) (C := RX2) (T := TX2) (N := 4) hX.1.1 hX.1.2.1 hX.1.2.2.2.2 in_X2 hX.1.2.2.2.1 hX.2 hI.1 0 rfl rfl 3 (by decide) (hX.1.2.2.2.2 _ q238) (fun _ h9 => h9) rfl hdg kk
end GETS
abbrev rmX1_init : Room := { frames := 1, cells := 12, slots := 247, locals := 20 }
abbrev rmX1_read : Room := { frames := 7, cells := 0, slots := 0, locals := 162 }
abbrev rmX1_badNode : Room := { frames := 0, cells := 0, slots := 0, locals := 0 }
abbrev rmX1_badBlock : Room := { frames := 0, cells := 0, slots := 0, locals := 0 }
abbrev rmX1_readBlock : Room := { frames := 6, cells := 0, slots := 0, locals := 139 }
abbrev rmX1_take : Room := { frames := 5, cells := 0, slots := 0, locals := 115 }
abbrev rmX1_stepBack : Room := { frames := 4, cells := 0, slots := 0, locals := 91 }
abbrev rmX1_isUnsafe : Room := { frames := 1, cells := 0, slots := 0, locals := 23 }
abbrev rmX1_journaled : Room := { frames := 0, cells := 0, slots := 0, locals := 0 }
abbrev rmX1_cached : Room := { frames := 0, cells := 0, slots := 0, locals := 0 }
abbrev rmX1_makeSafe : Room := { frames := 3, cells := 0, slots := 0, locals := 69 }
abbrev rmX1_unsafeCount : Room := { frames := 1, cells := 0, slots := 0, locals := 23 }
abbrev rmX1_fillJournal : Room := { frames := 2, cells := 0, slots := 0, locals := 47 }
abbrev rmX1_writeJournal : Room := { frames := 1, cells := 0, slots := 0, locals := 23 }
abbrev rmX1_markJournal : Room := { frames := 1, cells := 0, slots := 0, locals := 23 }
abbrev rmX1_sumOf : Room := { frames := 0, cells := 0, slots := 0, locals := 0 }
abbrev rmX1_bringHome : Room := { frames := 1, cells := 0, slots := 0, locals := 21 }
abbrev rmX1_emptyJournal : Room := { frames := 0, cells := 0, slots := 0, locals := 0 }
abbrev rmX1_forget : Room := { frames := 1, cells := 0, slots := 0, locals := 23 }
abbrev rmX1_dropCell : Room := { frames := 0, cells := 0, slots := 0, locals := 0 }
abbrev rmX1_bringIn : Room := { frames := 3, cells := 0, slots := 0, locals := 70 }
abbrev rmX1_freeCell : Room := { frames := 2, cells := 0, slots := 0, locals := 47 }
abbrev rmX1_write : Room := { frames := 7, cells := 0, slots := 0, locals := 163 }
abbrev rmX1_writeBlock : Room := { frames := 6, cells := 0, slots := 0, locals := 139 }
abbrev rmX1_swap : Room := { frames := 7, cells := 0, slots := 0, locals := 163 }
abbrev rmX1_sync : Room := { frames := 4, cells := 0, slots := 0, locals := 91 }
abbrev rmX1_crash : Room := { frames := 3, cells := 0, slots := 0, locals := 68 }
abbrev rmX1_die : Room := { frames := 2, cells := 0, slots := 0, locals := 45 }
abbrev rmX1_whole : Room := { frames := 1, cells := 0, slots := 0, locals := 23 }
abbrev rmX1_crashInSync : Room := { frames := 3, cells := 0, slots := 0, locals := 69 }
abbrev rmX1_restart : Room := { frames := 1, cells := 0, slots := 0, locals := 20 }
abbrev rmX1_powerCut : Room := { frames := 3, cells := 0, slots := 0, locals := 68 }
abbrev rmX1_content : Room := { frames := 3, cells := 0, slots := 0, locals := 70 }
abbrev rmX1_ownerOf : Room := { frames := 2, cells := 0, slots := 0, locals := 47 }
abbrev rmX1_safe : Room := { frames := 1, cells := 0, slots := 0, locals := 20 }
abbrev rmX1_owner : Room := { frames := 3, cells := 0, slots := 0, locals := 70 }
abbrev rmX1_unsafe : Room := { frames := 2, cells := 0, slots := 0, locals := 47 }
abbrev rmX1_up : Room := { frames := 1, cells := 0, slots := 0, locals := 20 }
abbrev rmX2_init : Room := { frames := 1, cells := 4, slots := 51, locals := 20 }
abbrev rmX2_read : Room := { frames := 2, cells := 0, slots := 0, locals := 46 }
abbrev rmX2_refusal : Room := { frames := 1, cells := 0, slots := 0, locals := 21 }
abbrev rmX2_isNode : Room := { frames := 0, cells := 0, slots := 0, locals := 0 }
abbrev rmX2_isBlock : Room := { frames := 0, cells := 0, slots := 0, locals := 0 }
abbrev rmX2_takeFromOthers : Room := { frames := 1, cells := 0, slots := 0, locals := 24 }
abbrev rmX2_settle : Room := { frames := 0, cells := 0, slots := 0, locals := 0 }
abbrev rmX2_write : Room := { frames := 2, cells := 0, slots := 0, locals := 46 }
abbrev rmX2_unsafe : Room := { frames := 1, cells := 0, slots := 0, locals := 21 }
abbrev rmX2_swap : Room := { frames := 3, cells := 0, slots := 0, locals := 70 }
abbrev rmX2_sync : Room := { frames := 2, cells := 0, slots := 0, locals := 44 }
abbrev rmX2_crash : Room := { frames := 3, cells := 0, slots := 0, locals := 67 }
abbrev rmX2_crashInSync : Room := { frames := 2, cells := 0, slots := 0, locals := 44 }
abbrev rmX2_restart : Room := { frames := 1, cells := 0, slots := 0, locals := 21 }
abbrev rmX2_powerCut : Room := { frames := 1, cells := 0, slots := 0, locals := 24 }
abbrev rmX2_content : Room := { frames := 1, cells := 0, slots := 0, locals := 21 }
abbrev rmX2_safe : Room := { frames := 1, cells := 0, slots := 0, locals := 21 }
abbrev rmX2_owner : Room := { frames := 1, cells := 0, slots := 0, locals := 21 }
abbrev rmX2_up : Room := { frames := 1, cells := 0, slots := 0, locals := 21 }
theorem cwX1_badNode {R rm : Room} {s : State} {args : Array Value} (hts : ∀ w ∈ lw_all, w.before args s = true) (h1 : rm.cells = 0) (h2 : rm.slots = 0) (hR : rm.frames + 1 ≤ R.frames ∧ 8 + (1 + 11) + rm.locals ≤ R.locals) : CallB R s args RX1 108 yX1_badNode cX1_badNode 1 (some .boolean) (ws_ yX1_badNode cX1_badNode 1 (some .boolean)) rm 0 0 1 ∧ (Cond.static yX1_badNode).before args s = true :=
  va_cwS 1 hts (lw_S q84 q85 q28 q86) rfl h1 h2 (by decide +kernel) hR
theorem cwX1_badBlock {R rm : Room} {s : State} {args : Array Value} (hts : ∀ w ∈ lw_all, w.before args s = true) (h1 : rm.cells = 0) (h2 : rm.slots = 0) (hR : rm.frames + 1 ≤ R.frames ∧ 8 + (1 + 11) + rm.locals ≤ R.locals) : CallB R s args RX1 112 yX1_badBlock cX1_badBlock 1 (some .boolean) (ws_ yX1_badBlock cX1_badBlock 1 (some .boolean)) rm 0 0 1 ∧ (Cond.static yX1_badBlock).before args s = true :=
  va_cwS 1 hts (lw_S q87 q88 q28 q89) rfl h1 h2 (by decide +kernel) hR
theorem cwX1_readBlock {R rm : Room} {s : State} {args : Array Value} (hts : ∀ w ∈ lw_all, w.before args s = true) (h1 : rm.cells = 0) (h2 : rm.slots = 0) (hR : rm.frames + 1 ≤ R.frames ∧ 8 + (4 + 11) + rm.locals ≤ R.locals) : CallW R s args RX1 RX1 115 yX1_readBlock cX1_readBlock 4 (some .int) (ws_ yX1_readBlock cX1_readBlock 4 (some .int)) rm 0 0 2 :=
  cwV 2 hts (lw_V q90 q92 qs0 q28 q93) rfl h1 h2 (by decide +kernel) hR
theorem cwX1_take {R rm : Room} {s : State} {args : Array Value} (hts : ∀ w ∈ lw_all, w.before args s = true) (h1 : rm.cells = 0) (h2 : rm.slots = 0) (hR : rm.frames + 1 ≤ R.frames ∧ 8 + (5 + 11) + rm.locals ≤ R.locals) : CallW R s args RX1 RX1 102 yX1_take cX1_take 5 none (ws_ yX1_take cX1_take 5 none) rm 0 0 3 :=
  cwV 3 hts (lw_V q94 q96 qs1 q28 q97) rfl h1 h2 (by decide +kernel) hR
theorem cwX1_stepBack {R rm : Room} {s : State} {args : Array Value} (hts : ∀ w ∈ lw_all, w.before args s = true) (h1 : rm.cells = 0) (h2 : rm.slots = 0) (hR : rm.frames + 1 ≤ R.frames ∧ 8 + (5 + 11) + rm.locals ≤ R.locals) : CallW R s args RX1 RX1 88 yX1_stepBack cX1_stepBack 5 none (ws_ yX1_stepBack cX1_stepBack 5 none) rm 0 0 3 :=
  cwV 3 hts (lw_V q98 q100 qs2 q28 q101) rfl h1 h2 (by decide +kernel) hR
theorem cwX1_isUnsafe {R rm : Room} {s : State} {args : Array Value} (hts : ∀ w ∈ lw_all, w.before args s = true) (h1 : rm.cells = 0) (h2 : rm.slots = 0) (hR : rm.frames + 1 ≤ R.frames ∧ 8 + (5 + 11) + rm.locals ≤ R.locals) : CallW R s args RX1 RX1 91 yX1_isUnsafe cX1_isUnsafe 5 (some .boolean) (ws_ yX1_isUnsafe cX1_isUnsafe 5 (some .boolean)) rm 0 0 2 :=
  cwV 2 hts (lw_V q102 q104 qs3 q28 q105) rfl h1 h2 (by decide +kernel) hR
theorem cwX1_journaled {R rm : Room} {s : State} {args : Array Value} (hts : ∀ w ∈ lw_all, w.before args s = true) (h1 : rm.cells = 0) (h2 : rm.slots = 0) (hR : rm.frames + 1 ≤ R.frames ∧ 8 + (4 + 11) + rm.locals ≤ R.locals) : CallW R s args RX1 RX1 51 yX1_journaled cX1_journaled 4 (some .int) (ws_ yX1_journaled cX1_journaled 4 (some .int)) rm 0 0 2 :=
  cwV 2 hts (lw_V q106 q108 qs4 q28 q109) rfl h1 h2 (by decide +kernel) hR
theorem cwX1_cached {R rm : Room} {s : State} {args : Array Value} (hts : ∀ w ∈ lw_all, w.before args s = true) (h1 : rm.cells = 0) (h2 : rm.slots = 0) (hR : rm.frames + 1 ≤ R.frames ∧ 8 + (4 + 11) + rm.locals ≤ R.locals) : CallW R s args RX1 RX1 63 yX1_cached cX1_cached 4 (some .int) (ws_ yX1_cached cX1_cached 4 (some .int)) rm 0 0 2 :=
  cwV 2 hts (lw_V q110 q112 qs5 q28 q113) rfl h1 h2 (by decide +kernel) hR
theorem cwX1_makeSafe {R rm : Room} {s : State} {args : Array Value} (hts : ∀ w ∈ lw_all, w.before args s = true) (h1 : rm.cells = 0) (h2 : rm.slots = 0) (hR : rm.frames + 1 ≤ R.frames ∧ 8 + (3 + 11) + rm.locals ≤ R.locals) : CallW R s args RX1 RX1 95 yX1_makeSafe cX1_makeSafe 3 (some .int) (ws_ yX1_makeSafe cX1_makeSafe 3 (some .int)) rm 0 0 1 :=
  cwV 1 hts (lw_V q114 q116 qs6 q28 q117) rfl h1 h2 (by decide +kernel) hR
theorem cwX1_unsafeCount {R rm : Room} {s : State} {args : Array Value} (hts : ∀ w ∈ lw_all, w.before args s = true) (h1 : rm.cells = 0) (h2 : rm.slots = 0) (hR : rm.frames + 1 ≤ R.frames ∧ 8 + (5 + 11) + rm.locals ≤ R.locals) : CallW R s args RX1 RX1 76 yX1_unsafeCount cX1_unsafeCount 5 (some .int) (ws_ yX1_unsafeCount cX1_unsafeCount 5 (some .int)) rm 0 0 1 :=
  cwV 1 hts (lw_V q118 q120 qs7 q28 q121) rfl h1 h2 (by decide +kernel) hR
theorem cwX1_fillJournal {R rm : Room} {s : State} {args : Array Value} (hts : ∀ w ∈ lw_all, w.before args s = true) (h1 : rm.cells = 0) (h2 : rm.slots = 0) (hR : rm.frames + 1 ≤ R.frames ∧ 8 + (3 + 11) + rm.locals ≤ R.locals) : CallW R s args RX1 RX1 79 yX1_fillJournal cX1_fillJournal 3 none (ws_ yX1_fillJournal cX1_fillJournal 3 none) rm 0 0 1 :=
  cwV 1 hts (lw_V q122 q124 qs8 q28 q125) rfl h1 h2 (by decide +kernel) hR
theorem cwX1_writeJournal {R rm : Room} {s : State} {args : Array Value} (hts : ∀ w ∈ lw_all, w.before args s = true) (h1 : rm.cells = 0) (h2 : rm.slots = 0) (hR : rm.frames + 1 ≤ R.frames ∧ 8 + (5 + 11) + rm.locals ≤ R.locals) : CallW R s args RX1 RX1 66 yX1_writeJournal cX1_writeJournal 5 none (ws_ yX1_writeJournal cX1_writeJournal 5 none) rm 0 0 3 :=
  cwV 3 hts (lw_V q126 q128 qs9 q28 q129) rfl h1 h2 (by decide +kernel) hR
theorem cwX1_markJournal {R rm : Room} {s : State} {args : Array Value} (hts : ∀ w ∈ lw_all, w.before args s = true) (h1 : rm.cells = 0) (h2 : rm.slots = 0) (hR : rm.frames + 1 ≤ R.frames ∧ 8 + (2 + 11) + rm.locals ≤ R.locals) : CallW R s args RX1 RX1 82 yX1_markJournal cX1_markJournal 2 none (ws_ yX1_markJournal cX1_markJournal 2 none) rm 0 0 1 :=
  cwV 1 hts (lw_V q130 q132 qs10 q28 q133) rfl h1 h2 (by decide +kernel) hR
theorem cwX1_sumOf {R rm : Room} {s : State} {args : Array Value} (hts : ∀ w ∈ lw_all, w.before args s = true) (h1 : rm.cells = 0) (h2 : rm.slots = 0) (hR : rm.frames + 1 ≤ R.frames ∧ 8 + (4 + 11) + rm.locals ≤ R.locals) : CallW R s args RX1 RX1 55 yX1_sumOf cX1_sumOf 4 (some .int) (ws_ yX1_sumOf cX1_sumOf 4 (some .int)) rm 0 0 1 :=
  cwV 1 hts (lw_V q134 q136 qs11 q28 q137) rfl h1 h2 (by decide +kernel) hR
theorem cwX1_bringHome {R rm : Room} {s : State} {args : Array Value} (hts : ∀ w ∈ lw_all, w.before args s = true) (h1 : rm.cells = 0) (h2 : rm.slots = 0) (hR : rm.frames + 1 ≤ R.frames ∧ 8 + (3 + 11) + rm.locals ≤ R.locals) : CallW R s args RX1 RX1 85 yX1_bringHome cX1_bringHome 3 none (ws_ yX1_bringHome cX1_bringHome 3 none) rm 0 0 1 :=
  cwV 1 hts (lw_V q138 q140 qs12 q28 q141) rfl h1 h2 (by decide +kernel) hR
theorem cwX1_emptyJournal {R rm : Room} {s : State} {args : Array Value} (hts : ∀ w ∈ lw_all, w.before args s = true) (h1 : rm.cells = 0) (h2 : rm.slots = 0) (hR : rm.frames + 1 ≤ R.frames ∧ 8 + (2 + 11) + rm.locals ≤ R.locals) : CallW R s args RX1 RX1 59 yX1_emptyJournal cX1_emptyJournal 2 none (ws_ yX1_emptyJournal cX1_emptyJournal 2 none) rm 0 0 1 :=
  cwV 1 hts (lw_V q142 q144 qs13 q28 q145) rfl h1 h2 (by decide +kernel) hR
theorem cwX1_forget {R rm : Room} {s : State} {args : Array Value} (hts : ∀ w ∈ lw_all, w.before args s = true) (h1 : rm.cells = 0) (h2 : rm.slots = 0) (hR : rm.frames + 1 ≤ R.frames ∧ 8 + (4 + 11) + rm.locals ≤ R.locals) : CallW R s args RX1 RX1 98 yX1_forget cX1_forget 4 none (ws_ yX1_forget cX1_forget 4 none) rm 0 0 2 :=
  cwV 2 hts (lw_V q146 q148 qs14 q28 q149) rfl h1 h2 (by decide +kernel) hR
theorem cwX1_dropCell {R rm : Room} {s : State} {args : Array Value} (hts : ∀ w ∈ lw_all, w.before args s = true) (h1 : rm.cells = 0) (h2 : rm.slots = 0) (hR : rm.frames + 1 ≤ R.frames ∧ 8 + (2 + 11) + rm.locals ≤ R.locals) : CallW R s args RX1 RX1 70 yX1_dropCell cX1_dropCell 2 none (ws_ yX1_dropCell cX1_dropCell 2 none) rm 0 0 1 :=
  cwV 1 hts (lw_V q150 q152 qs15 q28 q153) rfl h1 h2 (by decide +kernel) hR
theorem cwX1_bringIn {R rm : Room} {s : State} {args : Array Value} (hts : ∀ w ∈ lw_all, w.before args s = true) (h1 : rm.cells = 0) (h2 : rm.slots = 0) (hR : rm.frames + 1 ≤ R.frames ∧ 8 + (5 + 11) + rm.locals ≤ R.locals) : CallW R s args RX1 RX1 105 yX1_bringIn cX1_bringIn 5 (some .int) (ws_ yX1_bringIn cX1_bringIn 5 (some .int)) rm 0 0 2 :=
  cwV 2 hts (lw_V q154 q156 qs16 q28 q157) rfl h1 h2 (by decide +kernel) hR
theorem cwX1_freeCell {R rm : Room} {s : State} {args : Array Value} (hts : ∀ w ∈ lw_all, w.before args s = true) (h1 : rm.cells = 0) (h2 : rm.slots = 0) (hR : rm.frames + 1 ≤ R.frames ∧ 8 + (4 + 11) + rm.locals ≤ R.locals) : CallW R s args RX1 RX1 73 yX1_freeCell cX1_freeCell 4 (some .int) (ws_ yX1_freeCell cX1_freeCell 4 (some .int)) rm 0 0 1 :=
  cwV 1 hts (lw_V q158 q160 qs17 q28 q161) rfl h1 h2 (by decide +kernel) hR
theorem cwX1_writeBlock {R rm : Room} {s : State} {args : Array Value} (hts : ∀ w ∈ lw_all, w.before args s = true) (h1 : rm.cells = 0) (h2 : rm.slots = 0) (hR : rm.frames + 1 ≤ R.frames ∧ 8 + (5 + 11) + rm.locals ≤ R.locals) : CallW R s args RX1 RX1 118 yX1_writeBlock cX1_writeBlock 5 none (ws_ yX1_writeBlock cX1_writeBlock 5 none) rm 0 0 3 :=
  cwV 3 hts (lw_V q166 q168 qs18 q28 q169) rfl h1 h2 (by decide +kernel) hR
theorem cwX1_die {R rm : Room} {s : State} {args : Array Value} (hts : ∀ w ∈ lw_all, w.before args s = true) (h1 : rm.cells = 0) (h2 : rm.slots = 0) (hR : rm.frames + 1 ≤ R.frames ∧ 8 + (4 + 11) + rm.locals ≤ R.locals) : CallW R s args RX1 RX1 124 yX1_die cX1_die 4 none (ws_ yX1_die cX1_die 4 none) rm 0 0 1 :=
  cwV 1 hts (lw_V q182 q184 qs19 q28 q185) rfl h1 h2 (by decide +kernel) hR
theorem cwX1_whole {R rm : Room} {s : State} {args : Array Value} (hts : ∀ w ∈ lw_all, w.before args s = true) (h1 : rm.cells = 0) (h2 : rm.slots = 0) (hR : rm.frames + 1 ≤ R.frames ∧ 8 + (3 + 11) + rm.locals ≤ R.locals) : CallW R s args RX1 RX1 121 yX1_whole cX1_whole 3 (some .boolean) (ws_ yX1_whole cX1_whole 3 (some .boolean)) rm 0 0 1 :=
  cwV 1 hts (lw_V q186 q188 qs20 q28 q189) rfl h1 h2 (by decide +kernel) hR
theorem cwX1_ownerOf {R rm : Room} {s : State} {args : Array Value} (hts : ∀ w ∈ lw_all, w.before args s = true) (h1 : rm.cells = 0) (h2 : rm.slots = 0) (hR : rm.frames + 1 ≤ R.frames ∧ 8 + (4 + 11) + rm.locals ≤ R.locals) : CallW R s args RX1 RX1 127 yX1_ownerOf cX1_ownerOf 4 (some .int) (ws_ yX1_ownerOf cX1_ownerOf 4 (some .int)) rm 0 0 1 :=
  cwV 1 hts (lw_V q206 q208 qs21 q28 q209) rfl h1 h2 (by decide +kernel) hR
theorem cwX2_read {R rm : Room} {s : State} {args : Array Value} (hts : ∀ w ∈ lw_all, w.before args s = true) (h1 : rm.cells = 0) (h2 : rm.slots = 0) (hR : rm.frames + 1 ≤ R.frames ∧ 8 + (4 + 11) + rm.locals ≤ R.locals) : CallW R s args RX2 RX2 46 yX2_read cX2_read 4 (some .int) (ws_ yX2_read cX2_read 4 (some .int)) rm 0 0 2 :=
  cwV 2 hts (lw_V q284 q249 q250 q29 q251) rfl h1 h2 (by decide +kernel) hR
theorem cwX2_refusal {R rm : Room} {s : State} {args : Array Value} (hts : ∀ w ∈ lw_all, w.before args s = true) (h1 : rm.cells = 0) (h2 : rm.slots = 0) (hR : rm.frames + 1 ≤ R.frames ∧ 8 + (4 + 11) + rm.locals ≤ R.locals) : CallW R s args RX2 RX2 34 yX2_refusal cX2_refusal 4 (some .int) (ws_ yX2_refusal cX2_refusal 4 (some .int)) rm 0 0 3 :=
  cwV 3 hts (lw_V q252 q254 qs22 q29 q255) rfl h1 h2 (by decide +kernel) hR
theorem cwX2_isNode {R rm : Room} {s : State} {args : Array Value} (hts : ∀ w ∈ lw_all, w.before args s = true) (h1 : rm.cells = 0) (h2 : rm.slots = 0) (hR : rm.frames + 1 ≤ R.frames ∧ 8 + (2 + 11) + rm.locals ≤ R.locals) : CallW R s args RX2 RX2 23 yX2_isNode cX2_isNode 2 (some .boolean) (ws_ yX2_isNode cX2_isNode 2 (some .boolean)) rm 0 0 1 :=
  cwV 1 hts (lw_V q256 q258 qs23 q29 q259) rfl h1 h2 (by decide +kernel) hR
theorem cwX2_isBlock {R rm : Room} {s : State} {args : Array Value} (hts : ∀ w ∈ lw_all, w.before args s = true) (h1 : rm.cells = 0) (h2 : rm.slots = 0) (hR : rm.frames + 1 ≤ R.frames ∧ 8 + (2 + 11) + rm.locals ≤ R.locals) : CallW R s args RX2 RX2 27 yX2_isBlock cX2_isBlock 2 (some .boolean) (ws_ yX2_isBlock cX2_isBlock 2 (some .boolean)) rm 0 0 1 :=
  cwV 1 hts (lw_V q260 q262 qs24 q29 q263) rfl h1 h2 (by decide +kernel) hR
theorem cwX2_takeFromOthers {R rm : Room} {s : State} {args : Array Value} (hts : ∀ w ∈ lw_all, w.before args s = true) (h1 : rm.cells = 0) (h2 : rm.slots = 0) (hR : rm.frames + 1 ≤ R.frames ∧ 8 + (3 + 11) + rm.locals ≤ R.locals) : CallW R s args RX2 RX2 38 yX2_takeFromOthers cX2_takeFromOthers 3 none (ws_ yX2_takeFromOthers cX2_takeFromOthers 3 none) rm 0 0 2 :=
  cwV 2 hts (lw_V q264 q266 qs25 q29 q267) rfl h1 h2 (by decide +kernel) hR
theorem cwX2_settle {R rm : Room} {s : State} {args : Array Value} (hts : ∀ w ∈ lw_all, w.before args s = true) (h1 : rm.cells = 0) (h2 : rm.slots = 0) (hR : rm.frames + 1 ≤ R.frames ∧ 8 + (5 + 11) + rm.locals ≤ R.locals) : CallW R s args RX2 RX2 30 yX2_settle cX2_settle 5 (some .int) (ws_ yX2_settle cX2_settle 5 (some .int)) rm 0 0 2 :=
  cwV 2 hts (lw_V q268 q270 qs26 q29 q271) rfl h1 h2 (by decide +kernel) hR
theorem cwX2_write {R rm : Room} {s : State} {args : Array Value} (hts : ∀ w ∈ lw_all, w.before args s = true) (h1 : rm.cells = 0) (h2 : rm.slots = 0) (hR : rm.frames + 1 ≤ R.frames ∧ 8 + (5 + 11) + rm.locals ≤ R.locals) : CallW R s args RX2 RX2 50 yX2_write cX2_write 5 (some .int) (ws_ yX2_write cX2_write 5 (some .int)) rm 0 0 3 :=
  cwV 3 hts (lw_V q285 q273 q274 q29 q275) rfl h1 h2 (by decide +kernel) hR
theorem cwX2_unsafe {R rm : Room} {s : State} {args : Array Value} (hts : ∀ w ∈ lw_all, w.before args s = true) (h1 : rm.cells = 0) (h2 : rm.slots = 0) (hR : rm.frames + 1 ≤ R.frames ∧ 8 + (4 + 11) + rm.locals ≤ R.locals) : CallW R s args RX2 RX2 42 yX2_unsafe cX2_unsafe 4 (some .int) (ws_ yX2_unsafe cX2_unsafe 4 (some .int)) rm 0 0 1 :=
  cwV 1 hts (lw_V q276 q277 q278 q29 q279) rfl h1 h2 (by decide +kernel) hR
theorem cwX2_crashInSync {R rm : Room} {s : State} {args : Array Value} (hts : ∀ w ∈ lw_all, w.before args s = true) (h1 : rm.cells = 0) (h2 : rm.slots = 0) (hR : rm.frames + 1 ≤ R.frames ∧ 8 + (4 + 11) + rm.locals ≤ R.locals) : CallW R s args RX2 RX2 53 yX2_crashInSync cX2_crashInSync 4 (some .int) (ws_ yX2_crashInSync cX2_crashInSync 4 (some .int)) rm 0 0 2 :=
  cwV 2 hts (lw_V q294 q295 q296 q29 q297) rfl h1 h2 (by decide +kernel) hR
end
section
/-! PURE: counting (rows of COUNTS.to-paste), the journal and the cache of a node as maps from blocks -/
set_option maxRecDepth 100000
def fb_ct (p : Nat → Bool) : Nat → Nat
  | 0 => 0
  | n + 1 => fb_ct p n + (if p n then 1 else 0)
theorem fb_ct_succ (p : Nat → Bool) (n : Nat) : fb_ct p (n + 1) = fb_ct p n + (if p n then 1 else 0) := rfl
theorem fb_ct_le (p : Nat → Bool) : ∀ n, fb_ct p n ≤ n
  | 0 => Nat.le_refl _
  | n + 1 => by
    have h := fb_ct_le p n
    rw [fb_ct_succ]
    split <;> omega
theorem fb_ct_cong {p q : Nat → Bool} : ∀ {n : Nat}, (∀ k, k < n → p k = q k) → fb_ct p n = fb_ct q n
  | 0, _ => rfl
  | n + 1, h => by
    rw [fb_ct_succ, fb_ct_succ, fb_ct_cong (fun k hk => h k (by omega)), h n (by omega)]
/-- one place changed -/
theorem fb_ct_out (p : Nat → Bool) (b : Bool) {i n : Nat} (h : n ≤ i) : fb_ct (fun k => if k = i then b else p k) n = fb_ct p n :=
  fb_ct_cong fun k hk => if_neg (by omega)
theorem fb_ct_upd (p : Nat → Bool) (b : Bool) {i : Nat} : ∀ {n : Nat}, i < n → fb_ct (fun k => if k = i then b else p k) n + (if p i then 1 else 0) = fb_ct p n + (if b then 1 else 0)
  | 0, h => absurd h (Nat.not_lt_zero i)
  | n + 1, h => by
    rw [fb_ct_succ, fb_ct_succ]
    rcases Nat.lt_or_ge i n with q | q
    · have := fb_ct_upd p b q
      have e : (if n = i then b else p n) = p n := if_neg (by omega)
      rw [e]
      omega
    · have e : i = n := by omega
      subst e
      rw [fb_ct_out p b (Nat.le_refl _)]
      simp only [if_true]
      omega
theorem up_s {α : Type} (f : Nat → α) (k : Nat) (v : α) : va_up f k v k = v := by simp [va_up]
theorem up_n {α : Type} (f : Nat → α) {k j : Nat} (v : α) (h : j ≠ k) : va_up f k v j = f j := by simp [va_up, h]
theorem nI_m1 {b : Nat} (h : b < 2 ^ 31) : nI b ≠ -1 := by
  intro q
  have h1 := nI_toInt h
  rw [q] at h1
  have h2 : (-1 : Int32).toInt = -1 := by decide
  omega
theorem nI_inj {a b : Nat} (ha : a < 2 ^ 31) (hb : b < 2 ^ 31) (h : nI a = nI b) : a = b := (nI_eq ha hb).mp h
/-- how many blocks a map has -/
def jn_ (J : Nat → Option Int32) : Nat := fb_ct (fun b => (J b).isSome) 16
theorem jn_le (J : Nat → Option Int32) : jn_ J ≤ 16 := fb_ct_le _ _
theorem jn_cong {J J' : Nat → Option Int32} (h : ∀ b, b < 16 → (J b).isSome = (J' b).isSome) : jn_ J = jn_ J' := fb_ct_cong h
theorem jn_add {J : Nat → Option Int32} {b : Nat} {v : Int32} (hb : b < 16) (h : J b = none) : jn_ (va_up J b (some v)) = jn_ J + 1 := by
  have h1 := fb_ct_upd (fun b => (J b).isSome) true hb
  simp only [h, Option.isSome_none, if_true] at h1
  unfold jn_
  rw [← (show fb_ct (fun k => if k = b then true else (J k).isSome) 16 = fb_ct (fun b' => (va_up J b (some v) b').isSome) 16 from fb_ct_cong (fun k _ => by by_cases e : k = b <;> simp [va_up, e]))]
  simpa using h1
theorem jn_old {J : Nat → Option Int32} {b : Nat} {v : Int32} (h : (J b).isSome = true) : jn_ (va_up J b (some v)) = jn_ J := by
  refine jn_cong (fun k _ => ?_)
  by_cases e : k = b
  · subst e
    simp [va_up, h]
  · simp [va_up, e]
/-- the journal of node n holds the map J -/
def fsJ (σ : FS) (n : Nat) (J : Nat → Option Int32) : Prop :=
  σ 3 n = nI (jn_ J) ∧ (∀ i, i < jn_ J → ∃ b, b < 16 ∧ σ 4 (n * 16 + i) = nI b ∧ J b = some (σ 5 (n * 16 + i))) ∧ (∀ b, b < 16 → (J b).isSome = true → ∃ i, i < jn_ J ∧ σ 4 (n * 16 + i) = nI b) ∧ (∀ i j, i < jn_ J → j < jn_ J → σ 4 (n * 16 + i) = σ 4 (n * 16 + j) → i = j)
/-- the cache of node n (R cells) holds the map C: content, and whether it is newer -/
def fsC (σ : FS) (R n : Nat) (C : Nat → Option (Int32 × Int32)) : Prop :=
  (∃ t, t < R ∧ σ 12 n = nI t) ∧ (∀ i, i < R → (σ 9 (n * 8 + i) = -1 ∧ σ 11 (n * 8 + i) = 0) ∨ ∃ b, b < 16 ∧ σ 9 (n * 8 + i) = nI b ∧ C b = some (σ 10 (n * 8 + i), σ 11 (n * 8 + i))) ∧ (∀ b, b < 16 → (C b).isSome = true → ∃ i, i < R ∧ σ 9 (n * 8 + i) = nI b) ∧ (∀ i j, i < R → j < R → σ 9 (n * 8 + i) = σ 9 (n * 8 + j) → σ 9 (n * 8 + i) ≠ -1 → i = j)
def fsA (σ : FS) (R : Nat) (J : Nat → Nat → Option Int32) (C : Nat → Nat → Option (Int32 × Int32)) : Prop :=
  2 ≤ R ∧ R ≤ 8 ∧ ∀ n, n < 3 → fsJ σ n (J n) ∧ fsC σ R n (C n)
theorem fsJ_cong {σ τ : FS} {n : Nat} {J : Nat → Option Int32} (h : fsJ σ n J) (h3 : τ 3 n = σ 3 n) (h4 : ∀ i, i < 16 → τ 4 (n * 16 + i) = σ 4 (n * 16 + i)) (h5 : ∀ i, i < 16 → τ 5 (n * 16 + i) = σ 5 (n * 16 + i)) : fsJ τ n J := by
  obtain ⟨a1, a2, a3, a4⟩ := h
  have hle := jn_le J
  refine ⟨by rw [h3]; exact a1, fun i hi => ?_, fun b hb hs => ?_, fun i j hi hj e => ?_⟩
  · rw [h4 i (by omega), h5 i (by omega)]
    exact a2 i hi
  · obtain ⟨i, hi, e⟩ := a3 b hb hs
    exact ⟨i, hi, by rw [h4 i (by omega)]; exact e⟩
  · rw [h4 i (by omega), h4 j (by omega)] at e
    exact a4 i j hi hj e
theorem fsC_cong {σ τ : FS} {R n : Nat} {C : Nat → Option (Int32 × Int32)} (h : fsC σ R n C) (hR : R ≤ 8) (h12 : τ 12 n = σ 12 n) (h9 : ∀ i, i < 8 → τ 9 (n * 8 + i) = σ 9 (n * 8 + i)) (h10 : ∀ i, i < 8 → τ 10 (n * 8 + i) = σ 10 (n * 8 + i)) (h11 : ∀ i, i < 8 → τ 11 (n * 8 + i) = σ 11 (n * 8 + i)) : fsC τ R n C := by
  obtain ⟨a1, a2, a3, a4⟩ := h
  refine ⟨by rw [h12]; exact a1, fun i hi => ?_, fun b hb hs => ?_, fun i j hi hj e => ?_⟩
  · rw [h9 i (by omega), h10 i (by omega), h11 i (by omega)]
    exact a2 i hi
  · obtain ⟨i, hi, e⟩ := a3 b hb hs
    exact ⟨i, hi, by rw [h9 i (by omega)]; exact e⟩
  · rw [h9 i (by omega), h9 j (by omega)] at *
    exact a4 i j hi hj e
/-- a new entry of the journal -/
theorem fsJ_new {σ : FS} {n b : Nat} {J : Nat → Option Int32} {v : Int32} (h : fsJ σ n J) (hb : b < 16) (hn : J b = none) :
    fsJ (st_ (st_ (st_ σ 3 n (nI (jn_ J + 1))) 4 (n * 16 + jn_ J) (nI b)) 5 (n * 16 + jn_ J) v) n (va_up J b (some v)) := by
  obtain ⟨a1, a2, a3, a4⟩ := h
  have hc := jn_add (v := v) hb hn
  have e4 : ∀ i, (st_ (st_ (st_ σ 3 n (nI (jn_ J + 1))) 4 (n * 16 + jn_ J) (nI b)) 5 (n * 16 + jn_ J) v) 4 (n * 16 + i) = if i = jn_ J then nI b else σ 4 (n * 16 + i) := by
    intro i
    by_cases e : i = jn_ J
    · subst e; simp [st_]
    · simp only [st_, if_neg e]
      rw [if_neg (by omega), if_neg (by omega), if_neg (by omega)]
  have e5 : ∀ i, (st_ (st_ (st_ σ 3 n (nI (jn_ J + 1))) 4 (n * 16 + jn_ J) (nI b)) 5 (n * 16 + jn_ J) v) 5 (n * 16 + i) = if i = jn_ J then v else σ 5 (n * 16 + i) := by
    intro i
    by_cases e : i = jn_ J
    · subst e; simp [st_]
    · simp only [st_, if_neg e]
      rw [if_neg (by omega), if_neg (by omega), if_neg (by omega)]
  have hnb : ∀ i, i < jn_ J → σ 4 (n * 16 + i) ≠ nI b := by
    intro i hi q
    obtain ⟨b', hb', e, ej⟩ := a2 i hi
    rw [e] at q
    have := nI_inj (by omega) (by omega) q
    subst this
    rw [hn] at ej
    cases ej
  refine ⟨?_, ?_, ?_, ?_⟩
  · rw [hc]; simp [st_]
  · rw [hc]
    intro i hi
    rw [e4, e5]
    by_cases e : i = jn_ J
    · rw [if_pos e, if_pos e]
      exact ⟨b, hb, rfl, up_s _ _ _⟩
    · rw [if_neg e, if_neg e]
      obtain ⟨b', hb', q, ej⟩ := a2 i (by omega)
      refine ⟨b', hb', q, ?_⟩
      rw [up_n _ _ (by intro z; subst z; exact hnb i (by omega) q)]
      exact ej
  · rw [hc]
    intro b' hb' hs
    by_cases e : b' = b
    · subst e
      exact ⟨jn_ J, by omega, by rw [e4, if_pos rfl]⟩
    · rw [up_n _ _ e] at hs
      obtain ⟨i, hi, q⟩ := a3 b' hb' hs
      exact ⟨i, by omega, by rw [e4, if_neg (by omega)]; exact q⟩
  · rw [hc]
    intro i j hi hj q
    rw [e4, e4] at q
    by_cases ei : i = jn_ J
    · by_cases ej : j = jn_ J
      · omega
      · rw [if_pos ei, if_neg ej] at q
        exact absurd q.symm (hnb j (by omega))
    · by_cases ej : j = jn_ J
      · rw [if_neg ei, if_pos ej] at q
        exact absurd q (hnb i (by omega))
      · rw [if_neg ei, if_neg ej] at q
        exact a4 i j (by omega) (by omega) q
/-- an entry of the journal written over -/
theorem fsJ_old {σ : FS} {n b i : Nat} {J : Nat → Option Int32} {v : Int32} (h : fsJ σ n J) (hb : b < 16) (hi : i < jn_ J) (hq : σ 4 (n * 16 + i) = nI b) :
    fsJ (st_ (st_ σ 4 (n * 16 + i) (nI b)) 5 (n * 16 + i) v) n (va_up J b (some v)) := by
  obtain ⟨a1, a2, a3, a4⟩ := h
  have hs : (J b).isSome = true := by
    obtain ⟨b', hb', e, ej⟩ := a2 i hi
    rw [hq] at e
    have := nI_inj (by omega) (by omega) e
    subst this
    rw [ej]; rfl
  have hc := jn_old (v := v) hs
  have e4 : ∀ j, (st_ (st_ σ 4 (n * 16 + i) (nI b)) 5 (n * 16 + i) v) 4 (n * 16 + j) = σ 4 (n * 16 + j) := by
    intro j
    by_cases e : j = i
    · subst e; simp [st_, hq]
    · simp only [st_]
      rw [if_neg (by omega), if_neg (by omega)]
  have e5 : ∀ j, (st_ (st_ σ 4 (n * 16 + i) (nI b)) 5 (n * 16 + i) v) 5 (n * 16 + j) = if j = i then v else σ 5 (n * 16 + j) := by
    intro j
    by_cases e : j = i
    · subst e; simp [st_]
    · simp only [st_, if_neg e]
      rw [if_neg (by omega), if_neg (by omega)]
  refine ⟨?_, ?_, ?_, ?_⟩
  · rw [hc]; simp [st_, a1]
  · rw [hc]
    intro j hj
    rw [e4, e5]
    by_cases e : j = i
    · rw [if_pos e, e]
      exact ⟨b, hb, hq, up_s _ _ _⟩
    · rw [if_neg e]
      obtain ⟨b', hb', q, ej⟩ := a2 j hj
      refine ⟨b', hb', q, ?_⟩
      rw [up_n _ _ (by intro z; subst z; exact e (a4 j i hj hi (q.trans hq.symm)))]
      exact ej
  · rw [hc]
    intro b' hb' hs'
    by_cases e : b' = b
    · subst e
      exact ⟨i, hi, by rw [e4]; exact hq⟩
    · rw [up_n _ _ e] at hs'
      obtain ⟨j, hj, q⟩ := a3 b' hb' hs'
      exact ⟨j, hj, by rw [e4]; exact q⟩
  · rw [hc]
    intro j k hj hk q
    rw [e4, e4] at q
    exact a4 j k hj hk q
theorem fsJ_none {σ : FS} {n : Nat} (h : σ 3 n = 0) : fsJ σ n (fun _ => none) := by
  have h0 : jn_ (fun _ => none) = 0 := by decide
  refine ⟨by rw [h0]; exact h, ?_, ?_, ?_⟩
  · rw [h0]; intro i hi; omega
  · intro b _ hs; cases hs
  · rw [h0]; intro i j hi; omega
/-- what the search of a block in the journal says -/
theorem fsJ_miss {σ : FS} {n b : Nat} {J : Nat → Option Int32} (h : fsJ σ n J) (hb : b < 16) (hm : ∀ i, i < jn_ J → σ 4 (n * 16 + i) ≠ nI b) : J b = none := by
  cases hj : J b with
  | none => rfl
  | some v =>
    obtain ⟨i, hi, q⟩ := h.2.2.1 b hb (by rw [hj]; rfl)
    exact absurd q (hm i hi)
theorem fsJ_hit {σ : FS} {n b i : Nat} {J : Nat → Option Int32} (h : fsJ σ n J) (hb : b < 16) (hi : i < jn_ J) (hq : σ 4 (n * 16 + i) = nI b) : J b = some (σ 5 (n * 16 + i)) := by
  obtain ⟨b', hb', e, ej⟩ := h.2.1 i hi
  rw [hq] at e
  have := nI_inj (by omega) (by omega) e
  subst this
  exact ej
theorem fsC_miss {σ : FS} {R n b : Nat} {C : Nat → Option (Int32 × Int32)} (h : fsC σ R n C) (hb : b < 16) (hm : ∀ i, i < R → σ 9 (n * 8 + i) ≠ nI b) : C b = none := by
  cases hj : C b with
  | none => rfl
  | some v =>
    obtain ⟨i, hi, q⟩ := h.2.2.1 b hb (by rw [hj]; rfl)
    exact absurd q (hm i hi)
theorem fsC_hit {σ : FS} {R n b i : Nat} {C : Nat → Option (Int32 × Int32)} (h : fsC σ R n C) (hb : b < 16) (hi : i < R) (hq : σ 9 (n * 8 + i) = nI b) : C b = some (σ 10 (n * 8 + i), σ 11 (n * 8 + i)) := by
  rcases h.2.1 i hi with ⟨e, -⟩ | ⟨b', hb', e, ej⟩
  · rw [hq] at e
    exact absurd e (nI_m1 (by omega))
  · rw [hq] at e
    have := nI_inj (by omega) (by omega) e
    subst this
    exact ej
/-- a cell that is newer has a block -/
theorem fsC_dirty {σ : FS} {R n i : Nat} {C : Nat → Option (Int32 × Int32)} (h : fsC σ R n C) (hi : i < R) (hd : ¬ σ 11 (n * 8 + i) = 0) : ∃ b, b < 16 ∧ σ 9 (n * 8 + i) = nI b ∧ C b = some (σ 10 (n * 8 + i), σ 11 (n * 8 + i)) := by
  rcases h.2.1 i hi with ⟨-, e⟩ | q
  · exact absurd e hd
  · exact q
/-- a cell dropped -/
theorem fsC_drop {σ : FS} {R n b i : Nat} {C : Nat → Option (Int32 × Int32)} (h : fsC σ R n C) (hb : b < 16) (hi : i < R) (hq : σ 9 (n * 8 + i) = nI b) : fsC (st_ (st_ σ 9 (n * 8 + i) (-1)) 11 (n * 8 + i) 0) R n (va_up C b none) := by
  obtain ⟨a1, a2, a3, a4⟩ := h
  have e9 : ∀ j, (st_ (st_ σ 9 (n * 8 + i) (-1)) 11 (n * 8 + i) 0) 9 (n * 8 + j) = if j = i then -1 else σ 9 (n * 8 + j) := by
    intro j
    by_cases e : j = i
    · subst e; simp [st_]
    · simp only [st_, if_neg e]
      rw [if_neg (by omega), if_neg (by omega)]
  have e10 : ∀ j, (st_ (st_ σ 9 (n * 8 + i) (-1)) 11 (n * 8 + i) 0) 10 j = σ 10 j := fun j => by simp [st_]
  have e11 : ∀ j, (st_ (st_ σ 9 (n * 8 + i) (-1)) 11 (n * 8 + i) 0) 11 (n * 8 + j) = if j = i then 0 else σ 11 (n * 8 + j) := by
    intro j
    by_cases e : j = i
    · subst e; simp [st_]
    · simp only [st_, if_neg e]
      rw [if_neg (by omega), if_neg (by omega)]
  have hbi : ∀ j, j < R → j ≠ i → σ 9 (n * 8 + j) ≠ nI b := fun j hj hne q => hne (a4 j i hj hi (q.trans hq.symm) (by rw [q]; exact nI_m1 (by omega)))
  refine ⟨?_, ?_, ?_, ?_⟩
  · obtain ⟨t, ht, q⟩ := a1
    exact ⟨t, ht, by simp only [st_]; rw [if_neg (by omega), if_neg (by omega)]; exact q⟩
  · intro j hj
    rw [e9, e10, e11]
    by_cases e : j = i
    · rw [if_pos e, if_pos e]
      exact Or.inl ⟨rfl, rfl⟩
    · rw [if_neg e, if_neg e]
      rcases a2 j hj with q | ⟨b', hb', q, ej⟩
      · exact Or.inl q
      · refine Or.inr ⟨b', hb', q, ?_⟩
        rw [up_n _ _ (by intro z; subst z; exact hbi j hj e q)]
        exact ej
  · intro b' hb' hs
    by_cases e : b' = b
    · subst e
      rw [up_s] at hs
      cases hs
    · rw [up_n _ _ e] at hs
      obtain ⟨j, hj, q⟩ := a3 b' hb' hs
      refine ⟨j, hj, ?_⟩
      rw [e9, if_neg (by intro z; subst z; rw [hq] at q; exact e (nI_inj (by omega) (by omega) q.symm))]
      exact q
  · intro j k hj hk q hne
    rw [e9, e9] at q
    rw [e9] at hne
    by_cases ej : j = i
    · rw [if_pos ej] at hne
      exact absurd rfl hne
    · by_cases ek : k = i
      · rw [if_neg ej, if_pos ek] at q
        rw [if_neg ej] at hne
        exact absurd q hne
      · rw [if_neg ej, if_neg ek] at q
        rw [if_neg ej] at hne
        exact a4 j k hj hk q hne
/-- a block put into a free cell -/
theorem fsC_put {σ : FS} {R n b i : Nat} {C : Nat → Option (Int32 × Int32)} {v : Int32} (h : fsC σ R n C) (hb : b < 16) (hi : i < R) (hq : σ 9 (n * 8 + i) = -1) (hd : σ 11 (n * 8 + i) = 0) (hn : C b = none) : fsC (st_ (st_ σ 9 (n * 8 + i) (nI b)) 10 (n * 8 + i) v) R n (va_up C b (some (v, 0))) := by
  obtain ⟨a1, a2, a3, a4⟩ := h
  have e9 : ∀ j, (st_ (st_ σ 9 (n * 8 + i) (nI b)) 10 (n * 8 + i) v) 9 (n * 8 + j) = if j = i then nI b else σ 9 (n * 8 + j) := by
    intro j
    by_cases e : j = i
    · subst e; simp [st_]
    · simp only [st_, if_neg e]
      rw [if_neg (by omega), if_neg (by omega)]
  have e10 : ∀ j, (st_ (st_ σ 9 (n * 8 + i) (nI b)) 10 (n * 8 + i) v) 10 (n * 8 + j) = if j = i then v else σ 10 (n * 8 + j) := by
    intro j
    by_cases e : j = i
    · subst e; simp [st_]
    · simp only [st_, if_neg e]
      rw [if_neg (by omega), if_neg (by omega)]
  have e11 : ∀ j, (st_ (st_ σ 9 (n * 8 + i) (nI b)) 10 (n * 8 + i) v) 11 j = σ 11 j := fun j => by simp [st_]
  have hbn : ∀ j, j < R → σ 9 (n * 8 + j) ≠ nI b := by
    intro j hj q
    have := fsC_hit ⟨a1, a2, a3, a4⟩ hb hj q
    rw [hn] at this
    cases this
  refine ⟨?_, ?_, ?_, ?_⟩
  · obtain ⟨t, ht, q⟩ := a1
    exact ⟨t, ht, by simp only [st_]; rw [if_neg (by omega), if_neg (by omega)]; exact q⟩
  · intro j hj
    rw [e9, e10, e11]
    by_cases e : j = i
    · rw [if_pos e, if_pos e, e, hd]
      exact Or.inr ⟨b, hb, rfl, up_s _ _ _⟩
    · rw [if_neg e, if_neg e]
      rcases a2 j hj with q | ⟨b', hb', q, ej⟩
      · exact Or.inl q
      · refine Or.inr ⟨b', hb', q, ?_⟩
        rw [up_n _ _ (by intro z; subst z; exact hbn j hj q)]
        exact ej
  · intro b' hb' hs
    by_cases e : b' = b
    · subst e
      exact ⟨i, hi, by rw [e9, if_pos rfl]⟩
    · rw [up_n _ _ e] at hs
      obtain ⟨j, hj, q⟩ := a3 b' hb' hs
      refine ⟨j, hj, ?_⟩
      rw [e9, if_neg (by intro z; subst z; rw [hq] at q; exact nI_m1 (by omega) q.symm)]
      exact q
  · intro j k hj hk q hne
    rw [e9, e9] at q
    rw [e9] at hne
    by_cases ej : j = i
    · by_cases ek : k = i
      · omega
      · rw [if_pos ej, if_neg ek] at q
        exact absurd q.symm (hbn k hk)
    · by_cases ek : k = i
      · rw [if_neg ej, if_pos ek] at q
        exact absurd q (hbn j hj)
      · rw [if_neg ej, if_neg ek] at q
        rw [if_neg ej] at hne
        exact a4 j k hj hk q hne
/-- a cell's content and mark written -/
theorem fsC_set {σ : FS} {R n b i : Nat} {C : Nat → Option (Int32 × Int32)} {v x : Int32} (h : fsC σ R n C) (hb : b < 16) (hi : i < R) (hq : σ 9 (n * 8 + i) = nI b) {τ : FS} (t9 : τ 9 = σ 9) (t12 : τ 12 = σ 12) (t10 : ∀ j, τ 10 (n * 8 + j) = if j = i then v else σ 10 (n * 8 + j)) (t11 : ∀ j, τ 11 (n * 8 + j) = if j = i then x else σ 11 (n * 8 + j)) : fsC τ R n (va_up C b (some (v, x))) := by
  obtain ⟨a1, a2, a3, a4⟩ := h
  have hbi : ∀ j, j < R → j ≠ i → σ 9 (n * 8 + j) ≠ nI b := fun j hj hne q => hne (a4 j i hj hi (q.trans hq.symm) (by rw [q]; exact nI_m1 (by omega)))
  refine ⟨by rw [t12]; exact a1, ?_, ?_, ?_⟩
  · intro j hj
    rw [t9, t10, t11]
    by_cases e : j = i
    · rw [if_pos e, if_pos e, e]
      exact Or.inr ⟨b, hb, hq, up_s _ _ _⟩
    · rw [if_neg e, if_neg e]
      rcases a2 j hj with q | ⟨b', hb', q, ej⟩
      · exact Or.inl q
      · refine Or.inr ⟨b', hb', q, ?_⟩
        rw [up_n _ _ (by intro z; subst z; exact hbi j hj e q)]
        exact ej
  · intro b' hb' hs
    rw [t9]
    by_cases e : b' = b
    · subst e
      exact ⟨i, hi, hq⟩
    · rw [up_n _ _ e] at hs
      exact a3 b' hb' hs
  · rw [t9]
    exact a4
/-- the open write of a block at a node, if there is one -/
def vw_ (J : Option Int32) (C : Option (Int32 × Int32)) : Option Int32 := match C with
  | some q => if q.2 = 0 then J else some q.1
  | none => J
theorem vw_none (J : Option Int32) : vw_ J none = J := rfl
theorem vw_clean (J : Option Int32) (v : Int32) : vw_ J (some (v, 0)) = J := by simp [vw_]
theorem vw_dirty (J : Option Int32) (v : Int32) {x : Int32} (h : ¬ x = 0) : vw_ J (some (v, x)) = some v := by simp [vw_, h]
end
section
/-! PURE: other nodes untouched, maps that agree, counting of open writes -/
set_option maxRecDepth 100000
theorem fsJ_ext {σ : FS} {n : Nat} {J J' : Nat → Option Int32} (h : fsJ σ n J) (hE : ∀ b, b < 16 → J' b = J b) : fsJ σ n J' := by
  obtain ⟨a1, a2, a3, a4⟩ := h
  have hc : jn_ J' = jn_ J := jn_cong (fun b hb => by rw [hE b hb])
  refine ⟨by rw [hc]; exact a1, ?_, ?_, ?_⟩
  · rw [hc]
    intro i hi
    obtain ⟨b, hb, q, ej⟩ := a2 i hi
    exact ⟨b, hb, q, by rw [hE b hb]; exact ej⟩
  · rw [hc]
    intro b hb hs
    exact a3 b hb (by rw [← hE b hb]; exact hs)
  · rw [hc]
    exact a4
theorem fsC_ext {σ : FS} {R n : Nat} {C C' : Nat → Option (Int32 × Int32)} (h : fsC σ R n C) (hE : ∀ b, b < 16 → C' b = C b) : fsC σ R n C' := by
  obtain ⟨a1, a2, a3, a4⟩ := h
  refine ⟨a1, ?_, ?_, a4⟩
  · intro i hi
    rcases a2 i hi with q | ⟨b, hb, q, ej⟩
    · exact Or.inl q
    · exact Or.inr ⟨b, hb, q, by rw [hE b hb]; exact ej⟩
  · intro b hb hs
    exact a3 b hb (by rw [← hE b hb]; exact hs)
/-- the journals and caches of the nodes other than n are as before -/
def oth_ (n : Nat) (σ τ : FS) : Prop := ∀ a, a ≠ n → τ 3 a = σ 3 a ∧ τ 12 a = σ 12 a ∧ (∀ i, i < 16 → τ 4 (a * 16 + i) = σ 4 (a * 16 + i) ∧ τ 5 (a * 16 + i) = σ 5 (a * 16 + i)) ∧ ∀ i, i < 8 → τ 9 (a * 8 + i) = σ 9 (a * 8 + i) ∧ τ 10 (a * 8 + i) = σ 10 (a * 8 + i) ∧ τ 11 (a * 8 + i) = σ 11 (a * 8 + i)
theorem oth_rf (n : Nat) (σ : FS) : oth_ n σ σ := fun _ _ => ⟨rfl, rfl, fun _ _ => ⟨rfl, rfl⟩, fun _ _ => ⟨rfl, rfl, rfl⟩⟩
theorem oth_tr {n : Nat} {σ τ υ : FS} (h1 : oth_ n σ τ) (h2 : oth_ n τ υ) : oth_ n σ υ := by
  intro a ha
  obtain ⟨a1, a2, a3, a4⟩ := h1 a ha
  obtain ⟨b1, b2, b3, b4⟩ := h2 a ha
  exact ⟨b1.trans a1, b2.trans a2, fun i hi => ⟨(b3 i hi).1.trans (a3 i hi).1, (b3 i hi).2.trans (a3 i hi).2⟩, fun i hi => ⟨(b4 i hi).1.trans (a4 i hi).1, (b4 i hi).2.1.trans (a4 i hi).2.1, (b4 i hi).2.2.trans (a4 i hi).2.2⟩⟩
theorem oth_J {n a : Nat} {σ τ : FS} {J : Nat → Option Int32} (h : oth_ n σ τ) (ha : a ≠ n) (hJ : fsJ σ a J) : fsJ τ a J := by
  obtain ⟨a1, a2, a3, a4⟩ := h a ha
  exact fsJ_cong hJ a1 (fun i hi => (a3 i hi).1) (fun i hi => (a3 i hi).2)
theorem oth_C {n a R : Nat} {σ τ : FS} {C : Nat → Option (Int32 × Int32)} (h : oth_ n σ τ) (ha : a ≠ n) (hR : R ≤ 8) (hC : fsC σ R a C) : fsC τ R a C := by
  obtain ⟨a1, a2, a3, a4⟩ := h a ha
  exact fsC_cong hC hR a2 (fun i hi => (a4 i hi).1) (fun i hi => (a4 i hi).2.1) (fun i hi => (a4 i hi).2.2)
/-- writes of the journal alone -/
theorem oth_wj {n : Nat} {σ τ : FS} (h1 : ∀ k, k ≠ 3 → k ≠ 4 → k ≠ 5 → τ k = σ k) (h2 : ∀ a, a ≠ n → τ 3 a = σ 3 a ∧ ∀ i, i < 16 → τ 4 (a * 16 + i) = σ 4 (a * 16 + i) ∧ τ 5 (a * 16 + i) = σ 5 (a * 16 + i)) : oth_ n σ τ := by
  intro a ha
  obtain ⟨a1, a2⟩ := h2 a ha
  refine ⟨a1, by rw [h1 12 (by decide) (by decide) (by decide)], a2, fun i hi => ⟨?_, ?_, ?_⟩⟩
  · rw [h1 9 (by decide) (by decide) (by decide)]
  · rw [h1 10 (by decide) (by decide) (by decide)]
  · rw [h1 11 (by decide) (by decide) (by decide)]
/-- a cell of node n written -/
theorem oth_cell {n i k : Nat} (σ : FS) (x : Int32) (hi : i < 8) (hk : k = 9 ∨ k = 10 ∨ k = 11) : oth_ n σ (st_ σ k (n * 8 + i) x) := by
  intro a ha
  refine ⟨st_ne _ _ (by omega), st_ne _ _ (by omega), fun j hj => ⟨st_ne _ _ (by omega), st_ne _ _ (by omega)⟩, fun j hj => ⟨st_ne _ _ (by omega), st_ne _ _ (by omega), st_ne _ _ (by omega)⟩⟩
/-- a place that no journal or cache has, or one of node n, written -/
theorem oth_any {n k j : Nat} (σ : FS) (x : Int32) (hk : k = 1 ∨ k = 2 ∨ k = 6 ∨ k = 7 ∨ k = 8 ∨ ((k = 3 ∨ k = 12) ∧ j = n)) : oth_ n σ (st_ σ k j x) := by
  intro a ha
  refine ⟨st_ne _ _ (by omega), st_ne _ _ (by omega), fun i hi => ⟨st_ne _ _ (by omega), st_ne _ _ (by omega)⟩, fun i hi => ⟨st_ne _ _ (by omega), st_ne _ _ (by omega), st_ne _ _ (by omega)⟩⟩
theorem fsA_up {σ τ : FS} {R n : Nat} {J : Nat → Nat → Option Int32} {C : Nat → Nat → Option (Int32 × Int32)} {J' : Nat → Option Int32} {C' : Nat → Option (Int32 × Int32)} (h : fsA σ R J C) (ho : oth_ n σ τ) (hJ : fsJ τ n J') (hC : fsC τ R n C') : fsA τ R (va_up J n J') (va_up C n C') := by
  obtain ⟨h1, h2, h3⟩ := h
  refine ⟨h1, h2, fun a ha => ?_⟩
  by_cases e : a = n
  · subst e
    rw [up_s, up_s]
    exact ⟨hJ, hC⟩
  · rw [up_n _ _ e, up_n _ _ e]
    exact ⟨oth_J ho e (h3 a ha).1, oth_C ho e h2 (h3 a ha).2⟩
theorem vw_J {J : Option Int32} {C : Option (Int32 × Int32)} (h : J.isSome = true) : (vw_ J C).isSome = true := by
  unfold vw_
  split
  · split
    · exact h
    · rfl
  · exact h
/-- a block in one of the first i cells, newer -/
def qd_ (σ : FS) (n : Nat) : Nat → Nat → Bool
  | 0, _ => false
  | i + 1, b => qd_ σ n i b || decide (σ 11 (n * 8 + i) ≠ 0 ∧ σ 9 (n * 8 + i) = nI b)
theorem qd_iff (σ : FS) (n b : Nat) : ∀ i, qd_ σ n i b = true ↔ ∃ j, j < i ∧ σ 11 (n * 8 + j) ≠ 0 ∧ σ 9 (n * 8 + j) = nI b
  | 0 => by simp [qd_]
  | i + 1 => by
    have ih := qd_iff σ n b i
    unfold qd_
    rw [Bool.or_eq_true, ih, decide_eq_true_iff]
    constructor
    · rintro (⟨j, hj, q⟩ | q)
      · exact ⟨j, by omega, q⟩
      · exact ⟨i, by omega, q⟩
    · rintro ⟨j, hj, q⟩
      by_cases e : j = i
      · subst e
        exact Or.inr q
      · exact Or.inl ⟨j, by omega, q⟩
/-- how many blocks are in the journal, or newer in one of the first i cells -/
def cq_ (σ : FS) (n : Nat) (J : Nat → Option Int32) (i : Nat) : Nat := fb_ct (fun b => (J b).isSome || qd_ σ n i b) 16
theorem cq_0 (σ : FS) (n : Nat) (J : Nat → Option Int32) : cq_ σ n J 0 = jn_ J := fb_ct_cong (fun b _ => by simp [qd_])
theorem cq_le (σ : FS) (n : Nat) (J : Nat → Option Int32) (i : Nat) : cq_ σ n J i ≤ 16 := fb_ct_le _ _
theorem cq_clean {σ : FS} {n i : Nat} {J : Nat → Option Int32} (h : σ 11 (n * 8 + i) = 0) : cq_ σ n J (i + 1) = cq_ σ n J i := fb_ct_cong (fun b _ => by simp [qd_, h])
theorem cq_J {σ : FS} {n i b : Nat} {J : Nat → Option Int32} (hb : b < 16) (h9 : σ 9 (n * 8 + i) = nI b) (hJ : (J b).isSome = true) : cq_ σ n J (i + 1) = cq_ σ n J i := by
  refine fb_ct_cong (fun k hk => ?_)
  by_cases e : k = b
  · subst e
    simp [hJ]
  · have : ¬ (nI b = nI k) := fun q => e (nI_inj (by omega) (by omega) q).symm
    simp [qd_, h9, this]
theorem cq_new {σ : FS} {R n i b : Nat} {J : Nat → Option Int32} {C : Nat → Option (Int32 × Int32)} (hC : fsC σ R n C) (hi : i < R) (hb : b < 16) (hd : ¬ σ 11 (n * 8 + i) = 0) (h9 : σ 9 (n * 8 + i) = nI b) (hJ : J b = none) : cq_ σ n J (i + 1) = cq_ σ n J i + 1 := by
  have hq : qd_ σ n i b = false := by
    cases hz : qd_ σ n i b with
    | false => rfl
    | true =>
      obtain ⟨j, hj, hd2, h92⟩ := (qd_iff σ n b i).mp hz
      have := hC.2.2.2 j i (by omega) hi (h92.trans h9.symm) (by rw [h92]; exact nI_m1 (by omega))
      omega
  have h1 := fb_ct_upd (fun b => (J b).isSome || qd_ σ n i b) true hb
  simp only [hJ, hq, Option.isSome_none, Bool.or_false, if_true] at h1
  have h2 : cq_ σ n J (i + 1) = fb_ct (fun k => if k = b then true else ((J k).isSome || qd_ σ n i k)) 16 := by
    refine fb_ct_cong (fun k hk => ?_)
    by_cases e : k = b
    · subst e
      simp [qd_, h9, hd]
    · have : ¬ (nI b = nI k) := fun q => e (nI_inj (by omega) (by omega) q).symm
      simp [qd_, h9, this, e]
  rw [h2]
  simpa [cq_] using h1
theorem cq_end {σ : FS} {R n : Nat} {J : Nat → Option Int32} {C : Nat → Option (Int32 × Int32)} (hC : fsC σ R n C) : cq_ σ n J R = jn_ (fun b => vw_ (J b) (C b)) := by
  refine fb_ct_cong (fun b hb => ?_)
  rw [Bool.eq_iff_iff, Bool.or_eq_true, qd_iff]
  constructor
  · rintro (h | ⟨j, hj, hd, h9⟩)
    · exact vw_J h
    · show (vw_ (J b) (C b)).isSome = true
      rw [fsC_hit hC hb hj h9, vw_dirty _ _ hd]
      rfl
  · intro h
    have h : (vw_ (J b) (C b)).isSome = true := h
    cases hc : C b with
    | none =>
      rw [hc] at h
      exact Or.inl h
    | some q =>
      obtain ⟨v, x⟩ := q
      by_cases hx : x = 0
      · subst hx
        rw [hc, vw_clean] at h
        exact Or.inl h
      · obtain ⟨i, hi, h9⟩ := hC.2.2.1 b hb (by rw [hc]; rfl)
        have h2 := fsC_hit hC hb hi h9
        rw [hc] at h2
        cases h2
        exact Or.inr ⟨i, hi, hx, h9⟩
/-- the cells of a node, none newer -/
def cl_ (C : Nat → Option (Int32 × Int32)) : Nat → Option (Int32 × Int32) := fun b => (C b).map (fun q => (q.1, 0))
theorem fill_end {σ : FS} {R n : Nat} {J C' : Nat → Option Int32} {C D : Nat → Option (Int32 × Int32)} (hC : fsC σ R n D) (hz : ∀ j, j < R → σ 11 (n * 8 + j) = 0) (hv : ∀ b, b < 16 → vw_ (C' b) (D b) = vw_ (J b) (C b) ∧ (D b).map Prod.fst = (C b).map Prod.fst) : ∀ b, b < 16 → vw_ (J b) (C b) = C' b ∧ cl_ C b = D b := by
  intro b hb
  obtain ⟨h1, h2⟩ := hv b hb
  unfold cl_
  cases hd : D b with
  | none =>
    rw [hd] at h1 h2
    cases hc : C b with
    | none => exact ⟨by rw [← hc, ← h1]; rfl, rfl⟩
    | some q => rw [hc] at h2; cases h2
  | some q =>
    obtain ⟨v, x⟩ := q
    obtain ⟨i, hi, h9⟩ := hC.2.2.1 b hb (by rw [hd]; rfl)
    have h3 := fsC_hit hC hb hi h9
    rw [hz i hi, hd] at h3
    cases h3
    rw [hd] at h1 h2
    rw [vw_clean] at h1
    refine ⟨h1.symm, ?_⟩
    cases hc : C b with
    | none => rw [hc] at h2; cases h2
    | some q =>
      rw [hc] at h2
      have := Option.some.inj h2
      show some (q.1, (0 : Int32)) = _
      rw [← this]
end
section
/-! PURE: the invariant of the whole system, over U (open writes: node, block) and K (what is cached) -/
set_option maxRecDepth 100000
def fsInv (σ : FS) (R : Nat) (U : Nat → Nat → Option Int32) (K : Nat → Nat → Bool) : Prop :=
  (∃ (J : Nat → Nat → Option Int32) (C : Nat → Nat → Option (Int32 × Int32)), fsA σ R J C ∧ ∀ n, n < 3 → ∀ b, b < 16 → U n b = vw_ (J n b) (C n b) ∧ K n b = (C n b).isSome ∧ ∀ q, C n b = some q → q.1 = (U n b).getD (σ 2 b)) ∧
  (∀ n, n < 3 → σ 7 n = 0) ∧
  (∀ n m, n < 3 → m < 3 → n ≠ m → ∀ b, b < 16 → (U n b).isSome = true → U m b = none ∧ K m b = false) ∧
  (∀ n, n < 3 → ∀ b, b < 16 → (K n b = true ∨ (U n b).isSome = true) → σ 8 (n * 16 + b) ≠ 0)
/-- one node changed -/
theorem fsInv_node {σ τ : FS} {R n : Nat} {U : Nat → Nat → Option Int32} {K : Nat → Nat → Bool} (h : fsInv σ R U K) (ho : oth_ n σ τ) {J' : Nat → Option Int32} {C' : Nat → Option (Int32 × Int32)} (hJ : fsJ τ n J') (hC : fsC τ R n C') (U' : Nat → Option Int32) (K' : Nat → Bool)
    (hU : ∀ b, b < 16 → U' b = vw_ (J' b) (C' b)) (hK : ∀ b, b < 16 → K' b = (C' b).isSome) (hcoh : ∀ b, b < 16 → ∀ q, C' b = some q → q.1 = (U' b).getD (τ 2 b))
    (hhome : ∀ m, m < 3 → m ≠ n → ∀ b, b < 16 → K m b = true → U m b = none → τ 2 b = σ 2 b) (h7 : ∀ m, m < 3 → τ 7 m = 0)
    (hex : ∀ m, m < 3 → m ≠ n → ∀ b, b < 16 → ((U m b).isSome = true → U' b = none ∧ K' b = false) ∧ ((U' b).isSome = true → U m b = none ∧ K m b = false))
    (hlk : ∀ b, b < 16 → (K' b = true ∨ (U' b).isSome = true) → τ 8 (n * 16 + b) ≠ 0) (hlk2 : ∀ m, m < 3 → m ≠ n → ∀ b, b < 16 → (K m b = true ∨ (U m b).isSome = true) → τ 8 (m * 16 + b) ≠ 0) : fsInv τ R (va_up U n U') (va_up K n K') := by
  obtain ⟨⟨J, C, hA, hs⟩, -, hx, -⟩ := h
  refine ⟨⟨va_up J n J', va_up C n C', fsA_up hA ho hJ hC, fun m hm b hb => ?_⟩, h7, fun a m ha hm hne b hb hi => ?_, fun m hm b hb hi => ?_⟩
  · by_cases e : m = n
    · subst e
      rw [up_s, up_s, up_s, up_s]
      exact ⟨hU b hb, hK b hb, hcoh b hb⟩
    · rw [up_n _ _ e, up_n _ _ e, up_n _ _ e, up_n _ _ e]
      obtain ⟨h1, h2, h3⟩ := hs m hm b hb
      refine ⟨h1, h2, fun q hq => ?_⟩
      rw [h3 q hq]
      cases hu : U m b with
      | some v => rfl
      | none =>
        rw [hhome m hm e b hb (by rw [h2, hq]; rfl) hu]
  · by_cases e : a = n
    · subst e
      rw [up_s] at hi
      rw [up_n _ _ (fun z => hne z.symm), up_n _ _ (fun z => hne z.symm)]
      exact (hex m hm (fun z => hne z.symm) b hb).2 hi
    · rw [up_n _ _ e] at hi
      by_cases e2 : m = n
      · subst e2
        rw [up_s, up_s]
        exact (hex a ha e b hb).1 hi
      · rw [up_n _ _ e2, up_n _ _ e2]
        exact hx a m ha hm hne b hb hi
  · by_cases e : m = n
    · subst e
      rw [up_s, up_s] at hi
      exact hlk b hb hi
    · rw [up_n _ _ e, up_n _ _ e] at hi
      exact hlk2 m hm e b hb hi
/-- places of other arrays written, the locks kept from zero -/
theorem fsInv_frame {σ τ : FS} {R : Nat} {U : Nat → Nat → Option Int32} {K : Nat → Nat → Bool} (h : fsInv σ R U K) (hk : ∀ k, k ≠ 1 → k ≠ 6 → k ≠ 8 → τ k = σ k) (hl : ∀ n, n < 3 → ∀ b, b < 16 → (K n b = true ∨ (U n b).isSome = true) → τ 8 (n * 16 + b) ≠ 0) : fsInv τ R U K := by
  obtain ⟨⟨J, C, ⟨h1, h2, hA⟩, hs⟩, h7, hx, -⟩ := h
  refine ⟨⟨J, C, ⟨h1, h2, fun n hn => ⟨fsJ_cong (hA n hn).1 ?_ (fun i _ => ?_) (fun i _ => ?_), fsC_cong (hA n hn).2 h2 ?_ (fun i _ => ?_) (fun i _ => ?_) (fun i _ => ?_)⟩⟩, fun n hn b hb => ?_⟩, fun n hn => ?_, hx, hl⟩
  · rw [hk 3 (by decide) (by decide) (by decide)]
  · rw [hk 4 (by decide) (by decide) (by decide)]
  · rw [hk 5 (by decide) (by decide) (by decide)]
  · rw [hk 12 (by decide) (by decide) (by decide)]
  · rw [hk 9 (by decide) (by decide) (by decide)]
  · rw [hk 10 (by decide) (by decide) (by decide)]
  · rw [hk 11 (by decide) (by decide) (by decide)]
  · rw [hk 2 (by decide) (by decide) (by decide)]
    exact hs n hn b hb
  · rw [hk 7 (by decide) (by decide) (by decide)]
    exact h7 n hn
theorem fsInv_lock {σ : FS} {R : Nat} {U : Nat → Nat → Option Int32} {K : Nat → Nat → Bool} (h : fsInv σ R U K) {n b : Nat} (x : Int32) (hb : b < 16) (hx : x ≠ 0 ∨ (K n b = false ∧ U n b = none)) : fsInv (st_ σ 8 (n * 16 + b) x) R U K := by
  refine fsInv_frame h (fun k _ _ k8 => st_o _ _ _ k8) (fun m hm c hc hi => ?_)
  by_cases e : m * 16 + c = n * 16 + b
  · have e1 : m = n := by omega
    have e2 : c = b := by omega
    subst e1
    subst e2
    rw [st_at]
    rcases hx with z | ⟨z1, z2⟩
    · exact z
    · rw [z1, z2] at hi
      rcases hi with z | z <;> cases z
  · rw [st_ne _ _ (Or.inr e)]
    exact h.2.2.2 m hm c hc hi
/-- what 'take' does for node n and block b: the one other node that has an open write of it makes all of its writes safe -/
def Stl (n b : Nat) (U : Nat → Nat → Option Int32) (hm : Nat → Int32) (U' : Nat → Nat → Option Int32) (hm' : Nat → Int32) : Prop :=
  (U' = U ∧ ∀ c, c < 16 → hm' c = hm c) ∨ ∃ m, m < 3 ∧ m ≠ n ∧ (U m b).isSome = true ∧ U' = va_up U m (fun _ => none) ∧ ∀ c, c < 16 → hm' c = (U m c).getD (hm c)
theorem cl_some {C : Nat → Option (Int32 × Int32)} {b : Nat} {q : Int32 × Int32} (h : cl_ C b = some q) : ∃ x, C b = some (q.1, x) := by
  unfold cl_ at h
  cases hc : C b with
  | none => rw [hc] at h; cases h
  | some z =>
    rw [hc] at h
    cases h
    exact ⟨z.2, rfl⟩
theorem cl_isSome (C : Nat → Option (Int32 × Int32)) (b : Nat) : (cl_ C b).isSome = (C b).isSome := by
  unfold cl_
  cases C b <;> rfl
theorem cl_vw (C : Nat → Option (Int32 × Int32)) (J : Option Int32) (b : Nat) : vw_ J (cl_ C b) = J := by
  unfold cl_
  cases C b with
  | none => rfl
  | some q => exact vw_clean _ _
/-- the node's writes made safe -/
theorem fsInv_safe {σ τ : FS} {R n : Nat} {U : Nat → Nat → Option Int32} {K : Nat → Nat → Bool} {J : Nat → Nat → Option Int32} {C : Nat → Nat → Option (Int32 × Int32)} (h : fsInv σ R U K) (hn : n < 3) (hs : ∀ n, n < 3 → ∀ b, b < 16 → U n b = vw_ (J n b) (C n b) ∧ K n b = (C n b).isSome ∧ ∀ q, C n b = some q → q.1 = (U n b).getD (σ 2 b))
    (hJ : fsJ τ n (fun _ => none)) (hC : fsC τ R n (cl_ (C n))) (hh : ∀ b, b < 16 → τ 2 b = (U n b).getD (σ 2 b)) (h7 : τ 7 = upd (σ 7) n 0) (h8 : τ 8 = σ 8) (ho : oth_ n σ τ) : fsInv τ R (va_up U n (fun _ => none)) K := by
  have h0 : fsInv τ R (va_up U n (fun _ => none)) (va_up K n (K n)) := by
    refine fsInv_node h ho hJ hC (fun _ => none) (K n) (fun b _ => (cl_vw _ _ _).symm) (fun b hb => by rw [cl_isSome]; exact (hs n hn b hb).2.1) (fun b hb q hq => ?_) (fun m hm hne b hb hk hu => ?_) (fun m hm => ?_) (fun m hm hne b hb => ⟨fun z => ⟨rfl, (h.2.2.1 m n hm hn hne b hb z).2⟩, fun z => by cases z⟩) (fun b hb z => ?_) (fun m hm hne b hb z => ?_)
    · obtain ⟨x, hx⟩ := cl_some hq
      rw [hh b hb]
      exact (hs n hn b hb).2.2 (q.1, x) hx
    · rw [hh b hb]
      cases hu2 : U n b with
      | none => rfl
      | some v =>
        have := (h.2.2.1 n m hn hm (fun z => hne z.symm) b hb (by rw [hu2]; rfl)).2
        rw [hk] at this
        cases this
    · rw [h7]
      by_cases e : m = n
      · simp [upd, e]
      · simp [upd, e, h.2.1 m hm]
    · rw [h8]
      rcases z with z | z
      · exact h.2.2.2 n hn b hb (Or.inl z)
      · cases z
    · rw [h8]
      exact h.2.2.2 m hm b hb z
  have e : va_up K n (K n) = K := by
    funext m
    by_cases e : m = n
    · rw [e, up_s]
    · rw [up_n _ _ e]
  rw [e] at h0
  exact h0
/-- the block leaves the node's cache -/
theorem fsInv_forget {σ τ : FS} {R n b : Nat} {U : Nat → Nat → Option Int32} {K : Nat → Nat → Bool} {J : Nat → Nat → Option Int32} {C : Nat → Nat → Option (Int32 × Int32)} (h : fsInv σ R U K) (hn : n < 3) (hA : fsA σ R J C) (hs : ∀ n, n < 3 → ∀ b, b < 16 → U n b = vw_ (J n b) (C n b) ∧ K n b = (C n b).isSome ∧ ∀ q, C n b = some q → q.1 = (U n b).getD (σ 2 b))
    (hb : b < 16) (hu : U n b = none) (hC : fsC τ R n (va_up (C n) b none)) (hk : ∀ k, k ≠ 9 → k ≠ 11 → τ k = σ k) (ho : oth_ n σ τ) : fsInv τ R U (va_up K n (va_up (K n) b false)) := by
  have hJb : J n b = none := by
    have := (hs n hn b hb).1
    rw [hu] at this
    unfold vw_ at this
    split at this
    · split at this
      · exact this.symm
      · cases this
    · exact this.symm
  have h0 : fsInv τ R (va_up U n (U n)) (va_up K n (va_up (K n) b false)) := by
    refine fsInv_node h ho (fsJ_cong (hA.2.2 n hn).1 (by rw [hk 3 (by decide) (by decide)]) (fun i _ => by rw [hk 4 (by decide) (by decide)]) (fun i _ => by rw [hk 5 (by decide) (by decide)])) hC (U n) (va_up (K n) b false) (fun c hc => ?_) (fun c hc => ?_) (fun c hc q hq => ?_) (fun m hm hne c hc _ _ => by rw [hk 2 (by decide) (by decide)]) (fun m hm => by rw [hk 7 (by decide) (by decide)]; exact h.2.1 m hm) (fun m hm hne c hc => ⟨fun z => ?_, fun z => h.2.2.1 n m hn hm (fun y => hne y.symm) c hc z⟩) (fun c hc z => ?_) (fun m hm hne c hc z => by rw [hk 8 (by decide) (by decide)]; exact h.2.2.2 m hm c hc z)
    · by_cases e : c = b
      · subst e
        rw [up_s, hu, hJb]
        rfl
      · rw [up_n _ _ e]
        exact (hs n hn c hc).1
    · by_cases e : c = b
      · subst e
        rw [up_s, up_s]
        rfl
      · rw [up_n _ _ e, up_n _ _ e]
        exact (hs n hn c hc).2.1
    · by_cases e : c = b
      · subst e
        rw [up_s] at hq
        cases hq
      · rw [up_n _ _ e] at hq
        rw [hk 2 (by decide) (by decide)]
        exact (hs n hn c hc).2.2 q hq
    · obtain ⟨z1, z2⟩ := h.2.2.1 m n hm hn hne c hc z
      refine ⟨z1, ?_⟩
      by_cases e : c = b
      · rw [e, up_s]
      · rw [up_n _ _ e]
        exact z2
    · rw [hk 8 (by decide) (by decide)]
      refine h.2.2.2 n hn c hc ?_
      rcases z with z | z
      · by_cases e : c = b
        · rw [e, up_s] at z
          cases z
        · rw [up_n _ _ e] at z
          exact Or.inl z
      · exact Or.inr z
  have e : va_up U n (U n) = U := by
    funext m
    by_cases e : m = n
    · rw [e, up_s]
    · rw [up_n _ _ e]
  rw [e] at h0
  exact h0
/-- the block has come into the node's cache -/
theorem fsInv_bring {σ τ : FS} {R n b : Nat} {U : Nat → Nat → Option Int32} {K : Nat → Nat → Bool} {J : Nat → Nat → Option Int32} {C : Nat → Nat → Option (Int32 × Int32)} {J1 : Nat → Option Int32} {C1 : Nat → Option (Int32 × Int32)} (h : fsInv σ R U K) (hn : n < 3) (hs : ∀ n, n < 3 → ∀ b, b < 16 → U n b = vw_ (J n b) (C n b) ∧ K n b = (C n b).isSome ∧ ∀ q, C n b = some q → q.1 = (U n b).getD (σ 2 b))
    (hb : b < 16) (hJ : fsJ τ n J1) (hC : fsC τ R n C1) (hvw : ∀ z, z < 16 → vw_ (J1 z) (C1 z) = vw_ (J n z) (C n z) ∧ (z ≠ b → C1 z = C n z ∨ C1 z = none)) (hcb : (C1 b = C n b ∧ (C n b).isSome = true) ∨ (C n b = none ∧ C1 b = some ((vw_ (J n b) (C n b)).getD (σ 2 b), 0)))
    (h2 : τ 2 = σ 2) (h7 : τ 7 = σ 7) (h8 : τ 8 = σ 8) (ho : oth_ n σ τ) (hot : ∀ a, a < 3 → a ≠ n → U a b = none) (hlk : σ 8 (n * 16 + b) ≠ 0) : fsInv τ R U (va_up K n (fun z => (C1 z).isSome)) ∧ (∀ q, C1 b = some q → q.1 = (U n b).getD (σ 2 b)) := by
  have hcoh : ∀ c, c < 16 → ∀ q, C1 c = some q → q.1 = (U n c).getD (σ 2 c) := by
    intro c hc q hq
    by_cases e : c = b
    · subst e
      rcases hcb with ⟨z, -⟩ | ⟨-, z⟩
      · rw [z] at hq
        exact (hs n hn c hc).2.2 q hq
      · rw [hq] at z
        rw [Option.some.inj z, (hs n hn c hc).1]
    · rcases (hvw c hc).2 e with z | z
      · rw [z] at hq
        exact (hs n hn c hc).2.2 q hq
      · rw [z] at hq
        cases hq
  have hold : ∀ c, c < 16 → c ≠ b → (C1 c).isSome = true → K n c = true := by
    intro c hc e z
    rcases (hvw c hc).2 e with y | y
    · rw [(hs n hn c hc).2.1, ← y]
      exact z
    · rw [y] at z
      cases z
  refine ⟨?_, hcoh b hb⟩
  have h0 : fsInv τ R (va_up U n (U n)) (va_up K n (fun z => (C1 z).isSome)) := by
    refine fsInv_node h ho hJ hC (U n) (fun z => (C1 z).isSome) (fun c hc => ((hs n hn c hc).1).trans (hvw c hc).1.symm) (fun _ _ => rfl) (fun c hc q hq => by rw [h2]; exact hcoh c hc q hq) (fun m hm hne c hc _ _ => by rw [h2]) (fun m hm => by rw [h7]; exact h.2.1 m hm) (fun m hm hne c hc => ⟨fun z => ?_, fun z => h.2.2.1 n m hn hm (fun y => hne y.symm) c hc z⟩) (fun c hc z => ?_) (fun m hm hne c hc z => by rw [h8]; exact h.2.2.2 m hm c hc z)
    · obtain ⟨z1, z2⟩ := h.2.2.1 m n hm hn hne c hc z
      refine ⟨z1, ?_⟩
      cases hz : (C1 c).isSome with
      | false => rfl
      | true =>
        by_cases e : c = b
        · subst e
          rw [hot m hm hne] at z
          cases z
        · rw [hold c hc e hz] at z2
          cases z2
    · rw [h8]
      by_cases e : c = b
      · rw [e]
        exact hlk
      · refine h.2.2.2 n hn c hc ?_
        rcases z with z | z
        · exact Or.inl (hold c hc e z)
        · exact Or.inr z
  have e : va_up U n (U n) = U := by
    funext m
    by_cases e : m = n
    · rw [e, up_s]
    · rw [up_n _ _ e]
  rw [e] at h0
  exact h0
/-- a cell of the node that holds block b has a new open write -/
theorem fsInv_write {σ τ : FS} {R n b i : Nat} {U : Nat → Nat → Option Int32} {K : Nat → Nat → Bool} {v : Int32} (h : fsInv σ R U K) (hn : n < 3) (hb : b < 16) (hi : i < R) (h9 : σ 9 (n * 8 + i) = nI b) (hτ : τ = st_ (st_ σ 10 (n * 8 + i) v) 11 (n * 8 + i) 1) (hot : ∀ a, a < 3 → a ≠ n → U a b = none ∧ K a b = false) (hlk : σ 8 (n * 16 + b) ≠ 0) : fsInv τ R (va_up U n (va_up (U n) b (some v))) (va_up K n (va_up (K n) b true)) := by
  have h' := h
  obtain ⟨⟨J, C, hA, hs⟩, h7, hx, hl⟩ := h'
  have hR := hA.2.1
  have hk : ∀ k, k ≠ 10 → k ≠ 11 → τ k = σ k := fun k k1 k2 => by rw [hτ, st_o _ _ _ k2, st_o _ _ _ k1]
  have hC : fsC τ R n (va_up (C n) b (some (v, 1))) := by
    refine fsC_set (i := i) (hA.2.2 n hn).2 hb hi h9 (hk 9 (by decide) (by decide)) (hk 12 (by decide) (by decide)) (fun j => ?_) (fun j => ?_)
    · rw [hτ, st_ne _ _ (Or.inl (by decide))]
      by_cases e : j = i
      · rw [if_pos e, e, st_at]
      · rw [if_neg e, st_ne _ _ (Or.inr (by omega))]
    · rw [hτ]
      by_cases e : j = i
      · rw [if_pos e, e, st_at]
      · rw [if_neg e, st_ne _ _ (Or.inr (by omega)), st_ne _ _ (Or.inl (by decide))]
  have ho : oth_ n σ τ := by
    rw [hτ]
    exact oth_tr (oth_cell σ v (by omega) (Or.inr (Or.inl rfl))) (oth_cell _ 1 (by omega) (Or.inr (Or.inr rfl)))
  refine fsInv_node h ho (fsJ_cong (hA.2.2 n hn).1 (by rw [hk 3 (by decide) (by decide)]) (fun i _ => by rw [hk 4 (by decide) (by decide)]) (fun i _ => by rw [hk 5 (by decide) (by decide)])) hC _ _ (fun c hc => ?_) (fun c hc => ?_) (fun c hc q hq => ?_) (fun m hm hne c hc _ _ => by rw [hk 2 (by decide) (by decide)]) (fun m hm => by rw [hk 7 (by decide) (by decide)]; exact h7 m hm) (fun m hm hne c hc => ⟨fun z => ?_, fun z => ?_⟩) (fun c hc z => ?_) (fun m hm hne c hc z => by rw [hk 8 (by decide) (by decide)]; exact hl m hm c hc z)
  · by_cases e : c = b
    · subst e
      rw [up_s, up_s, vw_dirty _ _ (by decide)]
    · rw [up_n _ _ e, up_n _ _ e]
      exact (hs n hn c hc).1
  · by_cases e : c = b
    · subst e
      rw [up_s, up_s]
      rfl
    · rw [up_n _ _ e, up_n _ _ e]
      exact (hs n hn c hc).2.1
  · by_cases e : c = b
    · subst e
      rw [up_s] at hq
      rw [up_s]
      cases hq
      rfl
    · rw [up_n _ _ e] at hq
      rw [up_n _ _ e, hk 2 (by decide) (by decide)]
      exact (hs n hn c hc).2.2 q hq
  · by_cases e : c = b
    · subst e
      rw [(hot m hm hne).1] at z
      cases z
    · rw [up_n _ _ e, up_n _ _ e]
      exact hx m n hm hn hne c hc z
  · by_cases e : c = b
    · subst e
      exact hot m hm hne
    · rw [up_n _ _ e] at z
      exact hx n m hn hm (fun y => hne y.symm) c hc z
  · rw [hk 8 (by decide) (by decide)]
    by_cases e : c = b
    · rw [e]
      exact hlk
    · rw [up_n _ _ e, up_n _ _ e] at z
      exact hl n hn c hc z
/-- the node dies: what it had open is gone, or home -/
theorem fsInv_die {σ τ : FS} {R n : Nat} {U : Nat → Nat → Option Int32} {K : Nat → Nat → Bool} (h : fsInv σ R U K) (hn : n < 3) (hJ : fsJ τ n (fun _ => none)) (hC : fsC τ R n (fun _ => none)) (hh : (∀ b, b < 16 → τ 2 b = (U n b).getD (σ 2 b)) ∨ (∀ b, b < 16 → τ 2 b = σ 2 b)) (h7 : ∀ m, m < 3 → τ 7 m = 0) (h8 : ∀ a, a < 3 → a ≠ n → ∀ b, b < 16 → τ 8 (a * 16 + b) = σ 8 (a * 16 + b)) (ho : oth_ n σ τ) : fsInv τ R (va_up U n (fun _ => none)) (va_up K n (fun _ => false)) := by
  refine fsInv_node h ho hJ hC (fun _ => none) (fun _ => false) (fun b _ => rfl) (fun b _ => rfl) (fun b hb q hq => by cases hq) (fun m hm hne b hb hk hu => ?_) h7 (fun m hm hne b hb => ⟨fun z => ⟨rfl, rfl⟩, fun z => by cases z⟩) (fun b hb z => by rcases z with z | z <;> cases z) (fun m hm hne b hb z => by rw [h8 m hm hne b hb]; exact h.2.2.2 m hm b hb z)
  rcases hh with hh | hh
  · rw [hh b hb]
    cases hu2 : U n b with
    | none => rfl
    | some v =>
      have := (h.2.2.1 n m hn hm (fun z => hne z.symm) b hb (by rw [hu2]; rfl)).2
      rw [hk] at this
      cases this
  · exact hh b hb
end
section
/-! CONTRACTS of SharedDiskFs, leaves: badNode, badBlock, journaled, cached, sumOf, markJournal, whole, emptyJournal, dropCell -/
set_option maxRecDepth 100000
theorem ix_out {x : Int32} {N : Nat} (hN : N < 2 ^ 31) (h : x < 0 ∨ ¬ x < nI N) : ∀ n, n < N → x ≠ nI n := by
  intro n hn q
  subst q
  rcases h with h | h
  · exact nI_pos (by omega) h
  · exact h (nI_lt hn hN)
theorem ix_in {x : Int32} {N : Nat} (hN : N < 2 ^ 31) (h0 : ¬ x < 0) (h : x < nI N) : ∃ n, n < N ∧ x = nI n := by
  obtain ⟨j, hj, rfl⟩ := nI_of h0
  exact ⟨j, (nI_ltI hj hN).mp h, rfl⟩
set_option maxHeartbeats 4000000 in
theorem M_badNode (l : Launch) (x : Int32) : ob_Ms l yX1_badNode cX1_badNode 1 (some .boolean) rmX1_badNode [.int x] (fun v => (v = 1 ∧ ∀ n, n < 3 → x ≠ nI n) ∨ (v = 0 ∧ ∃ n, n < 3 ∧ x = nI n)) := by
  refine ob_ofWs (by decide) (Nat.le_of_ble_eq_true rfl) ?_
  intro p e s m args below meth c Q ls hx hb hret hl
  have hl : lv_has ls 1 [(0, .int x)] := hl
  refine lv_iload_n hx hb dX1_badNode_0 rfl (lv_at hl 0 rfl) ?_
  refine lv_if_lt (tgt := 9) hx hb dX1_badNode_1 (by decide) (fun q => ?_) (fun q => ?_)
  · skip
    refine lv_iconst (v := 1) hx hb dX1_badNode_9 (by decide) ?_
    refine lv_goto (tgt := 14) hx hb dX1_badNode_10 (by decide) ?_
    exact hret _ _ _ rfl (Or.inl ⟨rfl, ix_out (by decide) (Or.inl q)⟩) dX1_badNode_14
  · skip
    refine lv_iload_n hx hb dX1_badNode_4 rfl (lv_at hl 0 rfl) ?_
    refine lv_iconst (v := nI 3) hx hb dX1_badNode_5 (by decide) ?_
    refine lv_icmp_lt (tgt := 13) hx hb dX1_badNode_6 (by decide) (fun q2 => ?_) (fun q2 => ?_)
    · skip
      refine lv_iconst (v := 0) hx hb dX1_badNode_13 (by decide) ?_
      exact hret _ _ _ rfl (Or.inr ⟨rfl, ix_in (by decide) q q2⟩) dX1_badNode_14
    · skip
      refine lv_iconst (v := 1) hx hb dX1_badNode_9 (by decide) ?_
      refine lv_goto (tgt := 14) hx hb dX1_badNode_10 (by decide) ?_
      exact hret _ _ _ rfl (Or.inl ⟨rfl, ix_out (by decide) (Or.inr q2)⟩) dX1_badNode_14
set_option maxHeartbeats 4000000 in
theorem M_badBlock (l : Launch) (x : Int32) : ob_Ms l yX1_badBlock cX1_badBlock 1 (some .boolean) rmX1_badBlock [.int x] (fun v => (v = 1 ∧ ∀ n, n < 16 → x ≠ nI n) ∨ (v = 0 ∧ ∃ n, n < 16 ∧ x = nI n)) := by
  refine ob_ofWs (by decide) (Nat.le_of_ble_eq_true rfl) ?_
  intro p e s m args below meth c Q ls hx hb hret hl
  have hl : lv_has ls 1 [(0, .int x)] := hl
  refine lv_iload_n hx hb dX1_badBlock_0 rfl (lv_at hl 0 rfl) ?_
  refine lv_if_lt (tgt := 10) hx hb dX1_badBlock_1 (by decide) (fun q => ?_) (fun q => ?_)
  · skip
    refine lv_iconst (v := 1) hx hb dX1_badBlock_10 (by decide) ?_
    refine lv_goto (tgt := 15) hx hb dX1_badBlock_11 (by decide) ?_
    exact hret _ _ _ rfl (Or.inl ⟨rfl, ix_out (by decide) (Or.inl q)⟩) dX1_badBlock_15
  · skip
    refine lv_iload_n hx hb dX1_badBlock_4 rfl (lv_at hl 0 rfl) ?_
    refine lv_bipush (v := nI 16) hx hb dX1_badBlock_5 (by decide) ?_
    refine lv_icmp_lt (tgt := 14) hx hb dX1_badBlock_7 (by decide) (fun q2 => ?_) (fun q2 => ?_)
    · skip
      refine lv_iconst (v := 0) hx hb dX1_badBlock_14 (by decide) ?_
      exact hret _ _ _ rfl (Or.inr ⟨rfl, ix_in (by decide) q q2⟩) dX1_badBlock_15
    · skip
      refine lv_iconst (v := 1) hx hb dX1_badBlock_10 (by decide) ?_
      refine lv_goto (tgt := 15) hx hb dX1_badBlock_11 (by decide) ?_
      exact hret _ _ _ rfl (Or.inl ⟨rfl, ix_out (by decide) (Or.inr q2)⟩) dX1_badBlock_15
set_option maxHeartbeats 4000000 in
/-- journaled(n, x): the first place of x, or -1 -/
theorem M_journaled (l : Launch) (D : va_G) (h : Nat → Nat) (d : Nat → ClassId) (R n : Nat) (hn : n < 3) (w : Nat) (hw : w ≤ 16) (σ : FS) (h3 : σ 3 n = nI w) (x : Int32) : ob_Mi l yX1_journaled cX1_journaled 4 (some .int) rmX1_journaled D 0 [.int (nI R)] fsKs h d σ [.int (nI n), .int x] (fun v σ1 => σ1 = σ ∧ ((v = -1 ∧ ∀ i, i < w → σ 4 (n * 16 + i) ≠ x) ∨ ∃ i, i < w ∧ v = nI (n * 16 + i) ∧ σ 4 (n * 16 + i) = x)) := by
  refine ob_ofWi (C := RX1) (by decide) rfl (Nat.le_of_ble_eq_true rfl) ?_
  intro p e s m args below meth c A Q ls hX hAA hI hret hl
  have hx := hX.1.1
  have hb := hX.1.2.1
  have hts := hX.1.2.2.2.2
  have hl : lv_has ls 4 [(0, .ref (h 0)), (1, .int (nI n)), (2, .int x)] := hl
  refine lv_iload_n hx hb dX1_journaled_0 rfl (lv_at hl 1 rfl) ?_
  refine lv_bipush (v := nI 16) hx hb dX1_journaled_1 (by decide) ?_
  refine n_imul hx hb dX1_journaled_3 ?_
  refine lv_istore_n (lv' := [(3, .int (nI (n * 16))), (0, .ref (h 0)), (1, .int (nI n)), (2, .int x)]) hx hb dX1_journaled_4 rfl hl (by decide) rfl (fun ls hl => ?_)
  have loop : ∀ (k i : Nat) (ls : Array Slot), w < i + k → i ≤ w → (∀ j, j < i → σ 4 (n * 16 + j) ≠ x) → lv_has ls 4 [(3, .int (nI (n * 16 + i))), (0, .ref (h 0)), (1, .int (nI n)), (2, .int x)] → W p l e rmX1_journaled s m args below meth c s.heap [] 0 0 Q (F0 m 5 ls []) := by
    intro k
    induction k with
    | zero => intro i ls h1 h2; exact absurd h1 (by omega)
    | succ k ih =>
      intro i ls hk hi hm hl
      refine lv_iload_n hx hb dX1_journaled_5 rfl (lv_at hl 0 rfl) ?_
      refine lv_iload_n hx hb dX1_journaled_6 rfl (lv_at hl 2 rfl) ?_
      refine lv_bipush (v := nI 16) hx hb dX1_journaled_7 (by decide) ?_
      refine n_imul hx hb dX1_journaled_9 ?_
      refine lv_aload_n hx hb dX1_journaled_10 rfl (lv_at hl 1 rfl) ?_
      refine fs_g3 hX hI dX1_journaled_11 ?_
      refine lv_iload_n hx hb dX1_journaled_14 rfl (lv_at hl 2 rfl) ?_
      refine ob_ld hX hI 3 rfl (n) (by omega) (by decide) dX1_journaled_15 ?_
      refine n_top (y := nI (w)) h3 ?_
      refine n_iadd hx hb dX1_journaled_16 ?_
      refine n_icmp_ge (tgt := 38) hx hb dX1_journaled_17 (by decide) (by omega) (by omega) (fun q => ?_) (fun q => ?_)
      · skip
        refine lv_iconst (v := (-1)) hx hb dX1_journaled_38 (by decide) ?_
        exact hret _ _ _ _ _ _ ⟨rfl, Or.inl ⟨rfl, fun j hj => hm j (by omega)⟩⟩ hI dX1_journaled_39
      · skip
        refine lv_aload_n hx hb dX1_journaled_20 rfl (lv_at hl 1 rfl) ?_
        refine fs_g4 hX hI dX1_journaled_21 ?_
        refine lv_iload_n hx hb dX1_journaled_24 rfl (lv_at hl 0 rfl) ?_
        refine ob_ld hX hI 4 rfl (n * 16 + i) (by omega) (by decide) dX1_journaled_25 ?_
        refine lv_iload_n hx hb dX1_journaled_26 rfl (lv_at hl 3 rfl) ?_
        refine lv_icmp_ne (tgt := 32) hx hb dX1_journaled_27 (by decide) (fun q2 => ?_) (fun q2 => ?_)
        · skip
          refine n_iinc (k := 0) (lv' := [(3, .int (nI (n * 16 + i + 1))), (0, .ref (h 0)), (1, .int (nI n)), (2, .int x)]) hx hb dX1_journaled_32 hl rfl (by decide) rfl (fun ls hl => ?_)
          refine lv_goto (tgt := 5) hx hb dX1_journaled_35 (by decide) ?_
          exact ih (i + 1) ls (by omega) (by omega) (lt_s hm q2) hl
        · skip
          refine lv_iload_n hx hb dX1_journaled_30 rfl (lv_at hl 0 rfl) ?_
          exact hret _ _ _ _ _ _ ⟨rfl, Or.inr ⟨i, by omega, rfl, q2⟩⟩ hI dX1_journaled_31
  exact loop (w + 1) 0 ls (by omega) (Nat.zero_le _) (fun j hj => absurd hj (Nat.not_lt_zero j)) hl
set_option maxHeartbeats 4000000 in
/-- cached(n, x): the first place of x, or -1 -/
theorem M_cached (l : Launch) (D : va_G) (h : Nat → Nat) (d : Nat → ClassId) (R n : Nat) (hR : R ≤ 8) (hn : n < 3) (σ : FS) (x : Int32) : ob_Mi l yX1_cached cX1_cached 4 (some .int) rmX1_cached D 0 [.int (nI R)] fsKs h d σ [.int (nI n), .int x] (fun v σ1 => σ1 = σ ∧ ((v = -1 ∧ ∀ i, i < R → σ 9 (n * 8 + i) ≠ x) ∨ ∃ i, i < R ∧ v = nI (n * 8 + i) ∧ σ 9 (n * 8 + i) = x)) := by
  refine ob_ofWi (C := RX1) (by decide) rfl (Nat.le_of_ble_eq_true rfl) ?_
  intro p e s m args below meth c A Q ls hX hAA hI hret hl
  have hx := hX.1.1
  have hb := hX.1.2.1
  have hts := hX.1.2.2.2.2
  have hl : lv_has ls 4 [(0, .ref (h 0)), (1, .int (nI n)), (2, .int x)] := hl
  refine lv_iload_n hx hb dX1_cached_0 rfl (lv_at hl 1 rfl) ?_
  refine lv_bipush (v := nI 8) hx hb dX1_cached_1 (by decide) ?_
  refine n_imul hx hb dX1_cached_3 ?_
  refine lv_istore_n (lv' := [(3, .int (nI (n * 8))), (0, .ref (h 0)), (1, .int (nI n)), (2, .int x)]) hx hb dX1_cached_4 rfl hl (by decide) rfl (fun ls hl => ?_)
  have loop : ∀ (k i : Nat) (ls : Array Slot), R < i + k → i ≤ R → (∀ j, j < i → σ 9 (n * 8 + j) ≠ x) → lv_has ls 4 [(3, .int (nI (n * 8 + i))), (0, .ref (h 0)), (1, .int (nI n)), (2, .int x)] → W p l e rmX1_cached s m args below meth c s.heap [] 0 0 Q (F0 m 5 ls []) := by
    intro k
    induction k with
    | zero => intro i ls h1 h2; exact absurd h1 (by omega)
    | succ k ih =>
      intro i ls hk hi hm hl
      refine lv_iload_n hx hb dX1_cached_5 rfl (lv_at hl 0 rfl) ?_
      refine lv_iload_n hx hb dX1_cached_6 rfl (lv_at hl 2 rfl) ?_
      refine lv_bipush (v := nI 8) hx hb dX1_cached_7 (by decide) ?_
      refine n_imul hx hb dX1_cached_9 ?_
      refine lv_aload_n hx hb dX1_cached_10 rfl (lv_at hl 1 rfl) ?_
      refine fs_g0 hX hI dX1_cached_11 ?_
      refine n_iadd hx hb dX1_cached_14 ?_
      refine n_icmp_ge (tgt := 36) hx hb dX1_cached_15 (by decide) (by omega) (by omega) (fun q => ?_) (fun q => ?_)
      · skip
        refine lv_iconst (v := (-1)) hx hb dX1_cached_36 (by decide) ?_
        exact hret _ _ _ _ _ _ ⟨rfl, Or.inl ⟨rfl, fun j hj => hm j (by omega)⟩⟩ hI dX1_cached_37
      · skip
        refine lv_aload_n hx hb dX1_cached_18 rfl (lv_at hl 1 rfl) ?_
        refine fs_g9 hX hI dX1_cached_19 ?_
        refine lv_iload_n hx hb dX1_cached_22 rfl (lv_at hl 0 rfl) ?_
        refine ob_ld hX hI 9 rfl (n * 8 + i) (by omega) (by decide) dX1_cached_23 ?_
        refine lv_iload_n hx hb dX1_cached_24 rfl (lv_at hl 3 rfl) ?_
        refine lv_icmp_ne (tgt := 30) hx hb dX1_cached_25 (by decide) (fun q2 => ?_) (fun q2 => ?_)
        · skip
          refine n_iinc (k := 0) (lv' := [(3, .int (nI (n * 8 + i + 1))), (0, .ref (h 0)), (1, .int (nI n)), (2, .int x)]) hx hb dX1_cached_30 hl rfl (by decide) rfl (fun ls hl => ?_)
          refine lv_goto (tgt := 5) hx hb dX1_cached_33 (by decide) ?_
          exact ih (i + 1) ls (by omega) (by omega) (lt_s hm q2) hl
        · skip
          refine lv_iload_n hx hb dX1_cached_28 rfl (lv_at hl 0 rfl) ?_
          exact hret _ _ _ _ _ _ ⟨rfl, Or.inr ⟨i, by omega, rfl, q2⟩⟩ hI dX1_cached_29
  exact loop (R + 1) 0 ls (by omega) (Nat.zero_le _) (fun j hj => absurd hj (Nat.not_lt_zero j)) hl
def fsSl (σ : FS) : Nat → Nat → Int32 → Int32
  | 0, _, a => a
  | k + 1, i, a => fsSl σ k (i + 1) ((a * 31 + σ 4 i) * 31 + σ 5 i)
/-- the sum over node n's journal -/
def fsS (σ : FS) (n : Nat) : Int32 := fsSl σ (σ 3 n).toNatClampNeg (n * 16) (7 + σ 3 n)
theorem fsSl_cong {σ τ : FS} (h4 : τ 4 = σ 4) (h5 : τ 5 = σ 5) : ∀ (k i : Nat) (a : Int32), fsSl τ k i a = fsSl σ k i a
  | 0, _, _ => rfl
  | k + 1, i, a => by
    show fsSl τ k (i + 1) _ = fsSl σ k (i + 1) _
    rw [fsSl_cong h4 h5 k, h4, h5]
theorem fsS_cong {σ τ : FS} (n : Nat) (h3 : τ 3 = σ 3) (h4 : τ 4 = σ 4) (h5 : τ 5 = σ 5) : fsS τ n = fsS σ n := by
  unfold fsS
  rw [h3, fsSl_cong h4 h5]
set_option maxHeartbeats 4000000 in
/-- the sum over the journal -/
theorem M_sumOf (l : Launch) (D : va_G) (h : Nat → Nat) (d : Nat → ClassId) (R n : Nat) (hn : n < 3) (w : Nat) (hw : w ≤ 16) (σ : FS) (h3 : σ 3 n = nI w) : ob_Mi l yX1_sumOf cX1_sumOf 4 (some .int) rmX1_sumOf D 0 [.int (nI R)] fsKs h d σ [.int (nI n)] (fun v σ1 => σ1 = σ ∧ v = fsS σ n) := by
  refine ob_ofWi (C := RX1) (by decide) rfl (Nat.le_of_ble_eq_true rfl) ?_
  intro p e s m args below meth c A Q ls hX hAA hI hret hl
  have hx := hX.1.1
  have hb := hX.1.2.1
  have hts := hX.1.2.2.2.2
  have hl : lv_has ls 4 [(0, .ref (h 0)), (1, .int (nI n))] := hl
  refine lv_bipush (v := 7) hx hb dX1_sumOf_0 (by decide) ?_
  refine lv_aload_n hx hb dX1_sumOf_2 rfl (lv_at hl 0 rfl) ?_
  refine fs_g3 hX hI dX1_sumOf_3 ?_
  refine lv_iload_n hx hb dX1_sumOf_6 rfl (lv_at hl 1 rfl) ?_
  refine ob_ld hX hI 3 rfl (n) (by omega) (by decide) dX1_sumOf_7 ?_
  refine lv_iadd hx hb dX1_sumOf_8 ?_
  refine lv_istore_n (lv' := [(2, .int ((7) + (σ 3 n))), (0, .ref (h 0)), (1, .int (nI n))]) hx hb dX1_sumOf_9 rfl hl (by decide) rfl (fun ls hl => ?_)
  refine lv_iload_n hx hb dX1_sumOf_10 rfl (lv_at hl 2 rfl) ?_
  refine lv_bipush (v := nI 16) hx hb dX1_sumOf_11 (by decide) ?_
  refine n_imul hx hb dX1_sumOf_13 ?_
  refine lv_istore_n (lv' := [(3, .int (nI (n * 16))), (2, .int ((7) + (σ 3 n))), (0, .ref (h 0)), (1, .int (nI n))]) hx hb dX1_sumOf_14 rfl hl (by decide) rfl (fun ls hl => ?_)
  have loop : ∀ (k i : Nat) (a : Int32) (ls : Array Slot), w < i + k → i ≤ w → fsSl σ (w - i) (n * 16 + i) a = fsS σ n → lv_has ls 4 [(3, .int (nI (n * 16 + i))), (2, .int a), (0, .ref (h 0)), (1, .int (nI n))] → W p l e rmX1_sumOf s m args below meth c s.heap [] 0 0 Q (F0 m 15 ls []) := by
    intro k
    induction k with
    | zero => intro i a ls h1 h2; exact absurd h1 (by omega)
    | succ k ih =>
      intro i a ls hk hi ha hl
      refine lv_iload_n hx hb dX1_sumOf_15 rfl (lv_at hl 0 rfl) ?_
      refine lv_iload_n hx hb dX1_sumOf_16 rfl (lv_at hl 3 rfl) ?_
      refine lv_bipush (v := nI 16) hx hb dX1_sumOf_17 (by decide) ?_
      refine n_imul hx hb dX1_sumOf_19 ?_
      refine lv_aload_n hx hb dX1_sumOf_20 rfl (lv_at hl 2 rfl) ?_
      refine fs_g3 hX hI dX1_sumOf_21 ?_
      refine lv_iload_n hx hb dX1_sumOf_24 rfl (lv_at hl 3 rfl) ?_
      refine ob_ld hX hI 3 rfl (n) (by omega) (by decide) dX1_sumOf_25 ?_
      refine n_top (y := nI (w)) h3 ?_
      refine n_iadd hx hb dX1_sumOf_26 ?_
      refine n_icmp_ge (tgt := 60) hx hb dX1_sumOf_27 (by decide) (by omega) (by omega) (fun q => ?_) (fun q => ?_)
      · skip
        rw [show w - i = 0 by omega] at ha
        refine lv_iload_n hx hb dX1_sumOf_60 rfl (lv_at hl 1 rfl) ?_
        exact hret _ _ _ _ _ _ ⟨rfl, ha⟩ hI dX1_sumOf_61
      · skip
        refine lv_iload_n hx hb dX1_sumOf_30 rfl (lv_at hl 1 rfl) ?_
        refine lv_bipush (v := 31) hx hb dX1_sumOf_31 (by decide) ?_
        refine lv_imul hx hb dX1_sumOf_33 ?_
        refine lv_aload_n hx hb dX1_sumOf_34 rfl (lv_at hl 2 rfl) ?_
        refine fs_g4 hX hI dX1_sumOf_35 ?_
        refine lv_iload_n hx hb dX1_sumOf_38 rfl (lv_at hl 0 rfl) ?_
        refine ob_ld hX hI 4 rfl (n * 16 + i) (by omega) (by decide) dX1_sumOf_39 ?_
        refine lv_iadd hx hb dX1_sumOf_40 ?_
        refine lv_istore_n (lv' := [(2, .int (((a) * (31)) + (σ 4 (n * 16 + i)))), (3, .int (nI (n * 16 + i))), (0, .ref (h 0)), (1, .int (nI n))]) hx hb dX1_sumOf_41 rfl hl (by decide) rfl (fun ls hl => ?_)
        refine lv_iload_n hx hb dX1_sumOf_42 rfl (lv_at hl 0 rfl) ?_
        refine lv_bipush (v := 31) hx hb dX1_sumOf_43 (by decide) ?_
        refine lv_imul hx hb dX1_sumOf_45 ?_
        refine lv_aload_n hx hb dX1_sumOf_46 rfl (lv_at hl 2 rfl) ?_
        refine fs_g5 hX hI dX1_sumOf_47 ?_
        refine lv_iload_n hx hb dX1_sumOf_50 rfl (lv_at hl 1 rfl) ?_
        refine ob_ld hX hI 5 rfl (n * 16 + i) (by omega) (by decide) dX1_sumOf_51 ?_
        refine lv_iadd hx hb dX1_sumOf_52 ?_
        refine lv_istore_n (lv' := [(2, .int (((((a) * (31)) + (σ 4 (n * 16 + i))) * (31)) + (σ 5 (n * 16 + i)))), (3, .int (nI (n * 16 + i))), (0, .ref (h 0)), (1, .int (nI n))]) hx hb dX1_sumOf_53 rfl hl (by decide) rfl (fun ls hl => ?_)
        refine n_iinc (k := 1) (lv' := [(3, .int (nI (n * 16 + i + 1))), (2, .int (((((a) * (31)) + (σ 4 (n * 16 + i))) * (31)) + (σ 5 (n * 16 + i)))), (0, .ref (h 0)), (1, .int (nI n))]) hx hb dX1_sumOf_54 hl rfl (by decide) rfl (fun ls hl => ?_)
        refine lv_goto (tgt := 15) hx hb dX1_sumOf_57 (by decide) ?_
        rw [show w - i = (w - (i + 1)) + 1 by omega] at ha
        exact ih (i + 1) _ ls (by omega) (by omega) ha (lv_sub hl [0, 1, 2, 3] rfl)
  exact loop (w + 1) 0 _ ls (by omega) (Nat.zero_le _) (by unfold fsS; rw [h3, nI_clamp (by omega)]; rfl) hl
set_option maxHeartbeats 4000000 in
/-- marks the journal with its sum -/
theorem M_markJournal (l : Launch) (D : va_G) (h : Nat → Nat) (d : Nat → ClassId) (R n : Nat) (hn : n < 3) (w : Nat) (hw : w ≤ 16) (σ : FS) (h3 : σ 3 n = nI w) : ob_Mv l yX1_markJournal cX1_markJournal 2 rmX1_markJournal D 0 [.int (nI R)] fsKs h d σ [.int (nI n)] (fun σ1 => σ1 = st_ (st_ σ 6 n (fsS σ n)) 7 n 1) := by
  refine ob_ofWv (C := RX1) (by decide) rfl (Nat.le_of_ble_eq_true rfl) ?_
  intro p e s m args below meth c A Q ls hX hAA hI hret hl
  have hx := hX.1.1
  have hb := hX.1.2.1
  have hts := hX.1.2.2.2.2
  have hl : lv_has ls 2 [(0, .ref (h 0)), (1, .int (nI n))] := hl
  refine lv_aload_n hx hb dX1_markJournal_0 rfl (lv_at hl 0 rfl) ?_
  refine fs_g6 hX hI dX1_markJournal_1 ?_
  refine lv_iload_n hx hb dX1_markJournal_4 rfl (lv_at hl 1 rfl) ?_
  refine lv_aload_n hx hb dX1_markJournal_5 rfl (lv_at hl 0 rfl) ?_
  refine lv_iload_n hx hb dX1_markJournal_6 rfl (lv_at hl 1 rfl) ?_
  refine ob_calli hX hAA hI rfl (M_sumOf l D h d R n hn w hw σ h3) (cwX1_sumOf hts rfl rfl ⟨by decide, by decide⟩) rfl hl.1 (rest := [.int (nI n), .ref (h 6)]) (by simp [Value.category]) rfl dX1_markJournal_7 (fun v1 σ1 H locs hp hI => ?_)
  obtain ⟨hs, rfl⟩ := hp
  rw [hs] at hI
  refine ob_st hX hI 6 rfl (n) (by omega) (by decide) dX1_markJournal_10 (fun H locs hI => ?_)
  refine lv_aload_n hx hb dX1_markJournal_11 rfl (lv_at hl 0 rfl) ?_
  refine fs_g7 hX hI dX1_markJournal_12 ?_
  refine lv_iload_n hx hb dX1_markJournal_15 rfl (lv_at hl 1 rfl) ?_
  refine lv_iconst (v := 1) hx hb dX1_markJournal_16 (by decide) ?_
  refine ob_zst hX hI 7 rfl (n) (by omega) (by decide) (by decide) dX1_markJournal_17 (fun H locs hI => ?_)
  exact hret _ _ _ _ _ rfl hI dX1_markJournal_18
set_option maxHeartbeats 4000000 in
/-- is the journal whole? -/
theorem M_whole (l : Launch) (D : va_G) (h : Nat → Nat) (d : Nat → ClassId) (R n : Nat) (hn : n < 3) (w : Nat) (hw : w ≤ 16) (σ : FS) (h3 : σ 3 n = nI w) : ob_Mi l yX1_whole cX1_whole 3 (some .boolean) rmX1_whole D 0 [.int (nI R)] fsKs h d σ [.int (nI n)] (fun v σ1 => σ1 = σ ∧ ((v = 1 ∧ σ 7 n ≠ 0 ∧ fsS σ n = σ 6 n) ∨ (v = 0 ∧ ¬ (σ 7 n ≠ 0 ∧ fsS σ n = σ 6 n)))) := by
  refine ob_ofWz (C := RX1) (by decide) rfl (Nat.le_of_ble_eq_true rfl) ?_
  intro p e s m args below meth c A Q ls hX hAA hI hret hl
  have hx := hX.1.1
  have hb := hX.1.2.1
  have hts := hX.1.2.2.2.2
  have hl : lv_has ls 3 [(0, .ref (h 0)), (1, .int (nI n))] := hl
  refine lv_aload_n hx hb dX1_whole_0 rfl (lv_at hl 0 rfl) ?_
  refine fs_g7 hX hI dX1_whole_1 ?_
  refine lv_iload_n hx hb dX1_whole_4 rfl (lv_at hl 1 rfl) ?_
  refine ob_zld hX hI 7 rfl (n) (by omega) (by decide) dX1_whole_5 ?_
  refine lv_if_ne (tgt := 11) hx hb dX1_whole_6 (by decide) (fun q => ?_) (fun q => ?_)
  · skip
    refine lv_aload_n hx hb dX1_whole_11 rfl (lv_at hl 0 rfl) ?_
    refine lv_iload_n hx hb dX1_whole_12 rfl (lv_at hl 1 rfl) ?_
    refine ob_calli hX hAA hI rfl (M_sumOf l D h d R n hn w hw σ h3) (cwX1_sumOf hts rfl rfl ⟨by decide, by decide⟩) rfl hl.1 (rest := []) (by simp [Value.category]) rfl dX1_whole_13 (fun v1 σ1 H locs hp hI => ?_)
    obtain ⟨hs, rfl⟩ := hp
    rw [hs] at hI
    refine lv_istore_n (lv' := [(2, .int (fsS σ n)), (0, .ref (h 0)), (1, .int (nI n))]) hx hb dX1_whole_16 rfl hl (by decide) rfl (fun ls hl => ?_)
    refine lv_iload_n hx hb dX1_whole_17 rfl (lv_at hl 0 rfl) ?_
    refine lv_aload_n hx hb dX1_whole_18 rfl (lv_at hl 1 rfl) ?_
    refine fs_g6 hX hI dX1_whole_19 ?_
    refine lv_iload_n hx hb dX1_whole_22 rfl (lv_at hl 2 rfl) ?_
    refine ob_ld hX hI 6 rfl (n) (by omega) (by decide) dX1_whole_23 ?_
    refine lv_icmp_ne (tgt := 31) hx hb dX1_whole_24 (by decide) (fun q2 => ?_) (fun q2 => ?_)
    · skip
      refine lv_iconst (v := 0) hx hb dX1_whole_31 (by decide) ?_
      exact hret _ _ _ _ _ _ rfl ⟨rfl, Or.inr ⟨rfl, fun z => q2 z.2⟩⟩ hI dX1_whole_32
    · skip
      refine lv_iconst (v := 1) hx hb dX1_whole_27 (by decide) ?_
      refine lv_goto (tgt := 32) hx hb dX1_whole_28 (by decide) ?_
      exact hret _ _ _ _ _ _ rfl ⟨rfl, Or.inl ⟨rfl, q, q2⟩⟩ hI dX1_whole_32
  · skip
    refine lv_iconst (v := 0) hx hb dX1_whole_9 (by decide) ?_
    exact hret _ _ _ _ _ _ rfl ⟨rfl, Or.inr ⟨rfl, fun z => z.1 q⟩⟩ hI dX1_whole_10
set_option maxHeartbeats 4000000 in
/-- empties the journal -/
theorem M_emptyJournal (l : Launch) (D : va_G) (h : Nat → Nat) (d : Nat → ClassId) (R n : Nat) (hn : n < 3) (σ : FS) : ob_Mv l yX1_emptyJournal cX1_emptyJournal 2 rmX1_emptyJournal D 0 [.int (nI R)] fsKs h d σ [.int (nI n)] (fun σ1 => σ1 = st_ (st_ σ 3 n 0) 7 n 0) := by
  refine ob_ofWv (C := RX1) (by decide) rfl (Nat.le_of_ble_eq_true rfl) ?_
  intro p e s m args below meth c A Q ls hX hAA hI hret hl
  have hx := hX.1.1
  have hb := hX.1.2.1
  have hts := hX.1.2.2.2.2
  have hl : lv_has ls 2 [(0, .ref (h 0)), (1, .int (nI n))] := hl
  refine lv_aload_n hx hb dX1_emptyJournal_0 rfl (lv_at hl 0 rfl) ?_
  refine fs_g3 hX hI dX1_emptyJournal_1 ?_
  refine lv_iload_n hx hb dX1_emptyJournal_4 rfl (lv_at hl 1 rfl) ?_
  refine lv_iconst (v := 0) hx hb dX1_emptyJournal_5 (by decide) ?_
  refine ob_st hX hI 3 rfl (n) (by omega) (by decide) dX1_emptyJournal_6 (fun H locs hI => ?_)
  refine lv_aload_n hx hb dX1_emptyJournal_7 rfl (lv_at hl 0 rfl) ?_
  refine fs_g7 hX hI dX1_emptyJournal_8 ?_
  refine lv_iload_n hx hb dX1_emptyJournal_11 rfl (lv_at hl 1 rfl) ?_
  refine lv_iconst (v := 0) hx hb dX1_emptyJournal_12 (by decide) ?_
  refine ob_zst hX hI 7 rfl (n) (by omega) (by decide) (by decide) dX1_emptyJournal_13 (fun H locs hI => ?_)
  exact hret _ _ _ _ _ rfl hI dX1_emptyJournal_14
set_option maxHeartbeats 4000000 in
/-- drops a cell -/
theorem M_dropCell (l : Launch) (D : va_G) (h : Nat → Nat) (d : Nat → ClassId) (R n : Nat) (hn : n < 24) (σ : FS) : ob_Mv l yX1_dropCell cX1_dropCell 2 rmX1_dropCell D 0 [.int (nI R)] fsKs h d σ [.int (nI n)] (fun σ1 => σ1 = st_ (st_ σ 9 n (-1)) 11 n 0) := by
  refine ob_ofWv (C := RX1) (by decide) rfl (Nat.le_of_ble_eq_true rfl) ?_
  intro p e s m args below meth c A Q ls hX hAA hI hret hl
  have hx := hX.1.1
  have hb := hX.1.2.1
  have hts := hX.1.2.2.2.2
  have hl : lv_has ls 2 [(0, .ref (h 0)), (1, .int (nI n))] := hl
  refine lv_aload_n hx hb dX1_dropCell_0 rfl (lv_at hl 0 rfl) ?_
  refine fs_g9 hX hI dX1_dropCell_1 ?_
  refine lv_iload_n hx hb dX1_dropCell_4 rfl (lv_at hl 1 rfl) ?_
  refine lv_iconst (v := (-1)) hx hb dX1_dropCell_5 (by decide) ?_
  refine ob_st hX hI 9 rfl (n) (by omega) (by decide) dX1_dropCell_6 (fun H locs hI => ?_)
  refine lv_aload_n hx hb dX1_dropCell_7 rfl (lv_at hl 0 rfl) ?_
  refine fs_g11 hX hI dX1_dropCell_8 ?_
  refine lv_iload_n hx hb dX1_dropCell_11 rfl (lv_at hl 1 rfl) ?_
  refine lv_iconst (v := 0) hx hb dX1_dropCell_12 (by decide) ?_
  refine ob_zst hX hI 11 rfl (n) (by omega) (by decide) (by decide) dX1_dropCell_13 (fun H locs hI => ?_)
  exact hret _ _ _ _ _ rfl hI dX1_dropCell_14
end
section
/-! CONTRACTS of SharedDiskFs: writeJournal, bringHome -/
set_option maxRecDepth 100000
set_option maxHeartbeats 4000000 in
/-- writes a block into the journal -/
theorem M_writeJournal (l : Launch) (D : va_G) (h : Nat → Nat) (d : Nat → ClassId) (R n b : Nat) (hn : n < 3) (hb16 : b < 16) (v : Int32) (σ : FS) (J : Nat → Option Int32) (hJ : fsJ σ n J) : ob_Mv l yX1_writeJournal cX1_writeJournal 5 rmX1_writeJournal D 0 [.int (nI R)] fsKs h d σ [.int (nI n), .int (nI b), .int v] (fun σ1 => fsJ σ1 n (va_up J b (some v)) ∧ (∀ k, k ≠ 3 → k ≠ 4 → k ≠ 5 → σ1 k = σ k) ∧ ∀ a, a ≠ n → σ1 3 a = σ 3 a ∧ ∀ i, i < 16 → σ1 4 (a * 16 + i) = σ 4 (a * 16 + i) ∧ σ1 5 (a * 16 + i) = σ 5 (a * 16 + i)) := by
  refine ob_ofWv (C := RX1) (by decide) rfl (Nat.le_of_ble_eq_true rfl) ?_
  intro p e s m args below meth c A Q ls hX hAA hI hret hl
  have hx := hX.1.1
  have hb := hX.1.2.1
  have hts := hX.1.2.2.2.2
  have hl : lv_has ls 5 [(0, .ref (h 0)), (1, .int (nI n)), (2, .int (nI b)), (3, .int v)] := hl
  have hj16 := jn_le J
  refine lv_aload_n hx hb dX1_writeJournal_0 rfl (lv_at hl 0 rfl) ?_
  refine lv_iload_n hx hb dX1_writeJournal_1 rfl (lv_at hl 1 rfl) ?_
  refine lv_iload_n hx hb dX1_writeJournal_2 rfl (lv_at hl 2 rfl) ?_
  refine ob_calli hX hAA hI rfl (M_journaled l D h d R n hn (jn_ J) hj16 σ hJ.1 (nI b)) (cwX1_journaled hts rfl rfl ⟨by decide, by decide⟩) rfl hl.1 (rest := []) (by simp [Value.category]) rfl dX1_writeJournal_3 (fun v1 σ1 H locs hp hI => ?_)
  obtain ⟨hs, hp⟩ := hp
  rw [hs] at hI
  rcases hp with ⟨rfl, hm⟩ | ⟨i, hi, rfl, hq⟩
  · have hnone := fsJ_miss hJ hb16 hm
    have hlt : jn_ J < 16 := by have := jn_add (v := v) hb16 hnone; have := jn_le (va_up J b (some v)); omega
    refine lv_istore (lv' := [(4, .int ((-1))), (0, .ref (h 0)), (1, .int (nI n)), (2, .int (nI b)), (3, .int v)]) hx hb dX1_writeJournal_6 hl (by decide) rfl (fun ls hl => ?_)
    refine lv_iload hx hb dX1_writeJournal_8 (lv_at hl 0 rfl) ?_
    refine lv_if_ge (tgt := 36) hx hb dX1_writeJournal_10 (by decide) (fun q => ?_) (fun q => ?_)
    · exact absurd q (by decide)
    · skip
      refine lv_iload_n hx hb dX1_writeJournal_13 rfl (lv_at hl 2 rfl) ?_
      refine lv_bipush (v := nI 16) hx hb dX1_writeJournal_14 (by decide) ?_
      refine n_imul hx hb dX1_writeJournal_16 ?_
      refine lv_aload_n hx hb dX1_writeJournal_17 rfl (lv_at hl 1 rfl) ?_
      refine fs_g3 hX hI dX1_writeJournal_18 ?_
      refine lv_iload_n hx hb dX1_writeJournal_21 rfl (lv_at hl 2 rfl) ?_
      refine ob_ld hX hI 3 rfl (n) (by omega) (by decide) dX1_writeJournal_22 ?_
      refine n_top (y := nI (jn_ J)) hJ.1 ?_
      refine n_iadd hx hb dX1_writeJournal_23 ?_
      refine lv_istore (lv' := [(4, .int (nI (n * 16 + (jn_ J)))), (0, .ref (h 0)), (1, .int (nI n)), (2, .int (nI b)), (3, .int v)]) hx hb dX1_writeJournal_24 hl (by decide) rfl (fun ls hl => ?_)
      refine lv_aload_n hx hb dX1_writeJournal_26 rfl (lv_at hl 1 rfl) ?_
      refine fs_g3 hX hI dX1_writeJournal_27 ?_
      refine lv_iload_n hx hb dX1_writeJournal_30 rfl (lv_at hl 2 rfl) ?_
      refine lv_dup2_11 hx hb dX1_writeJournal_31 rfl rfl ?_
      refine ob_ld hX hI 3 rfl (n) (by omega) (by decide) dX1_writeJournal_32 ?_
      refine n_top (y := nI (jn_ J)) hJ.1 ?_
      refine lv_iconst (v := nI 1) hx hb dX1_writeJournal_33 (by decide) ?_
      refine n_iadd hx hb dX1_writeJournal_34 ?_
      refine ob_st hX hI 3 rfl (n) (by omega) (by decide) dX1_writeJournal_35 (fun H locs hI => ?_)
      refine lv_aload_n hx hb dX1_writeJournal_36 rfl (lv_at hl 1 rfl) ?_
      refine fs_g4 hX hI dX1_writeJournal_37 ?_
      refine lv_iload hx hb dX1_writeJournal_40 (lv_at hl 0 rfl) ?_
      refine lv_iload_n hx hb dX1_writeJournal_42 rfl (lv_at hl 3 rfl) ?_
      refine ob_st hX hI 4 rfl (n * 16 + (jn_ J)) (by omega) (by decide) dX1_writeJournal_43 (fun H locs hI => ?_)
      refine lv_aload_n hx hb dX1_writeJournal_44 rfl (lv_at hl 1 rfl) ?_
      refine fs_g5 hX hI dX1_writeJournal_45 ?_
      refine lv_iload hx hb dX1_writeJournal_48 (lv_at hl 0 rfl) ?_
      refine lv_iload_n hx hb dX1_writeJournal_50 rfl (lv_at hl 4 rfl) ?_
      refine ob_st hX hI 5 rfl (n * 16 + (jn_ J)) (by omega) (by decide) dX1_writeJournal_51 (fun H locs hI => ?_)
      exact hret _ _ _ _ _ ⟨fsJ_new hJ hb16 hnone, fun k k3 k4 k5 => by funext j; simp only [st_]; repeat rw [if_neg (by omega)], fun a ha => ⟨by simp only [st_]; repeat rw [if_neg (by omega)], fun i hi => ⟨by simp only [st_]; repeat rw [if_neg (by omega)], by simp only [st_]; repeat rw [if_neg (by omega)]⟩⟩⟩ hI dX1_writeJournal_52
  · skip
    refine lv_istore (lv' := [(4, .int (nI (n * 16 + i))), (0, .ref (h 0)), (1, .int (nI n)), (2, .int (nI b)), (3, .int v)]) hx hb dX1_writeJournal_6 hl (by decide) rfl (fun ls hl => ?_)
    refine lv_iload hx hb dX1_writeJournal_8 (lv_at hl 0 rfl) ?_
    refine lv_if_ge (tgt := 36) hx hb dX1_writeJournal_10 (by decide) (fun q => ?_) (fun q => ?_)
    · skip
      refine lv_aload_n hx hb dX1_writeJournal_36 rfl (lv_at hl 1 rfl) ?_
      refine fs_g4 hX hI dX1_writeJournal_37 ?_
      refine lv_iload hx hb dX1_writeJournal_40 (lv_at hl 0 rfl) ?_
      refine lv_iload_n hx hb dX1_writeJournal_42 rfl (lv_at hl 3 rfl) ?_
      refine ob_st hX hI 4 rfl (n * 16 + i) (by omega) (by decide) dX1_writeJournal_43 (fun H locs hI => ?_)
      refine lv_aload_n hx hb dX1_writeJournal_44 rfl (lv_at hl 1 rfl) ?_
      refine fs_g5 hX hI dX1_writeJournal_45 ?_
      refine lv_iload hx hb dX1_writeJournal_48 (lv_at hl 0 rfl) ?_
      refine lv_iload_n hx hb dX1_writeJournal_50 rfl (lv_at hl 4 rfl) ?_
      refine ob_st hX hI 5 rfl (n * 16 + i) (by omega) (by decide) dX1_writeJournal_51 (fun H locs hI => ?_)
      exact hret _ _ _ _ _ ⟨fsJ_old hJ hb16 hi hq, fun k k3 k4 k5 => by funext j; simp only [st_]; repeat rw [if_neg (by omega)], fun a ha => ⟨by simp only [st_]; repeat rw [if_neg (by omega)], fun i hi => ⟨by simp only [st_]; repeat rw [if_neg (by omega)], by simp only [st_]; repeat rw [if_neg (by omega)]⟩⟩⟩ hI dX1_writeJournal_52
    · exact absurd (nI_pos' (by omega)) q
set_option maxHeartbeats 4000000 in
/-- copies the journal home and empties it -/
theorem M_bringHome (l : Launch) (D : va_G) (h : Nat → Nat) (d : Nat → ClassId) (R n : Nat) (hn : n < 3) (σ : FS) (J : Nat → Option Int32) (hJ : fsJ σ n J) : ob_Mv l yX1_bringHome cX1_bringHome 3 rmX1_bringHome D 0 [.int (nI R)] fsKs h d σ [.int (nI n)] (fun σ1 => (∀ b, b < 16 → σ1 2 b = (J b).getD (σ 2 b)) ∧ σ1 3 = upd (σ 3) n 0 ∧ σ1 7 = upd (σ 7) n 0 ∧ ∀ k, k ≠ 2 → k ≠ 3 → k ≠ 7 → σ1 k = σ k) := by
  refine ob_ofWv (C := RX1) (by decide) rfl (Nat.le_of_ble_eq_true rfl) ?_
  intro p e s m args below meth c A Q ls hX hAA hI hret hl
  have hx := hX.1.1
  have hb := hX.1.2.1
  have hts := hX.1.2.2.2.2
  have hl : lv_has ls 3 [(0, .ref (h 0)), (1, .int (nI n))] := hl
  have hj16 := jn_le J
  refine lv_iload_n hx hb dX1_bringHome_0 rfl (lv_at hl 1 rfl) ?_
  refine lv_bipush (v := nI 16) hx hb dX1_bringHome_1 (by decide) ?_
  refine n_imul hx hb dX1_bringHome_3 ?_
  refine lv_istore_n (lv' := [(2, .int (nI (n * 16))), (0, .ref (h 0)), (1, .int (nI n))]) hx hb dX1_bringHome_4 rfl hl (by decide) rfl (fun ls hl => ?_)
  have loop : ∀ (k i : Nat) (τ : FS) (H : Heap) (locs : List Loc) (ls : Array Slot), jn_ J < i + k → i ≤ jn_ J → (∀ a, a ≠ 2 → τ a = σ a) → (∀ b, b < 16 → (∀ j, j < i → σ 4 (n * 16 + j) ≠ nI b) → τ 2 b = σ 2 b) → (∀ j, j < i → ∀ b, b < 16 → σ 4 (n * 16 + j) = nI b → τ 2 b = σ 5 (n * 16 + j)) → ob_I D 0 [.int (nI R)] fsKs h d τ A s.heap H locs → lv_has ls 3 [(2, .int (nI (n * 16 + i))), (0, .ref (h 0)), (1, .int (nI n))] → W p l e rmX1_bringHome s m args below meth c H locs 0 0 Q (F0 m 5 ls []) := by
    intro k
    induction k with
    | zero => intro i τ H locs ls h1 h2; exact absurd h1 (by omega)
    | succ k ih =>
      intro i τ H locs ls hk hi hk0 hk1 hk2 hI hl
      have t3 : τ 3 n = nI (jn_ J) := by rw [hk0 3 (by decide)]; exact hJ.1
      refine lv_iload_n hx hb dX1_bringHome_5 rfl (lv_at hl 0 rfl) ?_
      refine lv_iload_n hx hb dX1_bringHome_6 rfl (lv_at hl 2 rfl) ?_
      refine lv_bipush (v := nI 16) hx hb dX1_bringHome_7 (by decide) ?_
      refine n_imul hx hb dX1_bringHome_9 ?_
      refine lv_aload_n hx hb dX1_bringHome_10 rfl (lv_at hl 1 rfl) ?_
      refine fs_g3 hX hI dX1_bringHome_11 ?_
      refine lv_iload_n hx hb dX1_bringHome_14 rfl (lv_at hl 2 rfl) ?_
      refine ob_ld hX hI 3 rfl (n) (by omega) (by decide) dX1_bringHome_15 ?_
      refine n_top (y := nI (jn_ J)) t3 ?_
      refine n_iadd hx hb dX1_bringHome_16 ?_
      refine n_icmp_ge (tgt := 43) hx hb dX1_bringHome_17 (by decide) (by omega) (by omega) (fun q => ?_) (fun q => ?_)
      · skip
        refine lv_aload_n hx hb dX1_bringHome_43 rfl (lv_at hl 1 rfl) ?_
        refine lv_iload_n hx hb dX1_bringHome_44 rfl (lv_at hl 2 rfl) ?_
        refine ob_callv hX hAA hI rfl (M_emptyJournal l D h d R n hn τ) (cwX1_emptyJournal hts rfl rfl ⟨by decide, by decide⟩) rfl hl.1 (rest := []) (by simp [Value.category]) rfl dX1_bringHome_45 (fun σ1 H locs hp hI => ?_)
        subst hp
        refine hret _ _ _ _ _ ⟨fun b hb16 => ?_, ?_, ?_, fun k z2 z3 z7 => ?_⟩ hI dX1_bringHome_48
        · rw [st_ne _ _ (Or.inl (by decide)), st_ne _ _ (Or.inl (by decide))]
          cases hb : J b with
          | none =>
            exact hk1 b hb16 (fun j hj z => by have := fsJ_hit hJ hb16 (by omega) z; rw [hb] at this; cases this)
          | some v =>
            obtain ⟨j, hj, z⟩ := hJ.2.2.1 b hb16 (by rw [hb]; rfl)
            rw [hk2 j (by omega) b hb16 z]
            have := fsJ_hit hJ hb16 hj z
            rw [hb] at this
            cases this
            rfl
        · rw [st_o _ _ _ (by decide), st_k, hk0 3 (by decide)]
        · rw [st_k, st_o _ _ _ (by decide), hk0 7 (by decide)]
        · rw [st_o _ _ _ z7, st_o _ _ _ z3, hk0 k z2]
      · skip
        obtain ⟨b, hb16, hqb, hJb⟩ := hJ.2.1 i (by omega)
        refine lv_aload_n hx hb dX1_bringHome_20 rfl (lv_at hl 1 rfl) ?_
        refine fs_g2 hX hI dX1_bringHome_21 ?_
        refine lv_aload_n hx hb dX1_bringHome_24 rfl (lv_at hl 1 rfl) ?_
        refine fs_g4 hX hI dX1_bringHome_25 ?_
        refine lv_iload_n hx hb dX1_bringHome_28 rfl (lv_at hl 0 rfl) ?_
        refine ob_ld hX hI 4 rfl (n * 16 + i) (by omega) (by decide) dX1_bringHome_29 ?_
        refine n_top (y := nI (b)) (by rw [hk0 4 (by decide)]; exact hqb) ?_
        refine lv_aload_n hx hb dX1_bringHome_30 rfl (lv_at hl 1 rfl) ?_
        refine fs_g5 hX hI dX1_bringHome_31 ?_
        refine lv_iload_n hx hb dX1_bringHome_34 rfl (lv_at hl 0 rfl) ?_
        refine ob_ld hX hI 5 rfl (n * 16 + i) (by omega) (by decide) dX1_bringHome_35 ?_
        refine ob_st hX hI 2 rfl (b) (by omega) (by decide) dX1_bringHome_36 (fun H locs hI => ?_)
        refine n_iinc (k := 0) (lv' := [(2, .int (nI (n * 16 + i + 1))), (0, .ref (h 0)), (1, .int (nI n))]) hx hb dX1_bringHome_37 hl rfl (by decide) rfl (fun ls hl => ?_)
        refine lv_goto (tgt := 5) hx hb dX1_bringHome_40 (by decide) ?_
        refine ih (i + 1) _ H locs ls (by omega) (by omega) (fun a ha => by rw [st_o _ _ _ ha]; exact hk0 a ha) (fun b' hb' hj => ?_) (fun j hj b' hb' z => ?_) hI hl
        · rw [st_ne _ _ (Or.inr (by intro z; subst z; exact hj i (by omega) hqb))]
          exact hk1 b' hb' (fun j z => hj j (by omega))
        · by_cases e : j = i
          · subst e
            rw [hqb] at z
            have := nI_inj (by omega) (by omega) z
            subst this
            rw [st_at, hk0 5 (by decide)]
          · rw [st_ne _ _ (Or.inr (by intro y; subst y; exact e (hJ.2.2.2 j i (by omega) (by omega) (z.trans hqb.symm))))]
            exact hk2 j (by omega) b' hb' z
  exact loop (jn_ J + 1) 0 σ _ _ ls (by omega) (Nat.zero_le _) (fun _ _ => rfl) (fun _ _ _ => rfl) (fun j hj => absurd hj (Nat.not_lt_zero j)) hI hl
end
section
/-! CONTRACTS of SharedDiskFs: is a write open, how many are, filling the journal, making safe -/
set_option maxRecDepth 100000
set_option maxHeartbeats 4000000 in
/-- has the node an open write of the block? -/
theorem M_isUnsafe (l : Launch) (D : va_G) (h : Nat → Nat) (d : Nat → ClassId) (R n b : Nat) (hR : R ≤ 8) (hn : n < 3) (hb16 : b < 16) (σ : FS) (J : Nat → Option Int32) (C : Nat → Option (Int32 × Int32)) (hJ : fsJ σ n J) (hC : fsC σ R n C) : ob_Mi l yX1_isUnsafe cX1_isUnsafe 5 (some .boolean) rmX1_isUnsafe D 0 [.int (nI R)] fsKs h d σ [.int (nI n), .int (nI b)] (fun v σ1 => σ1 = σ ∧ ((v = 1 ∧ (vw_ (J b) (C b)).isSome = true) ∨ (v = 0 ∧ vw_ (J b) (C b) = none))) := by
  refine ob_ofWz (C := RX1) (by decide) rfl (Nat.le_of_ble_eq_true rfl) ?_
  intro p e s m args below meth c A Q ls hX hAA hI hret hl
  have hx := hX.1.1
  have hb := hX.1.2.1
  have hts := hX.1.2.2.2.2
  have hl : lv_has ls 5 [(0, .ref (h 0)), (1, .int (nI n)), (2, .int (nI b))] := hl
  have hj16 := jn_le J
  refine lv_aload_n hx hb dX1_isUnsafe_0 rfl (lv_at hl 0 rfl) ?_
  refine lv_iload_n hx hb dX1_isUnsafe_1 rfl (lv_at hl 1 rfl) ?_
  refine lv_iload_n hx hb dX1_isUnsafe_2 rfl (lv_at hl 2 rfl) ?_
  refine ob_calli hX hAA hI rfl (M_journaled l D h d R n hn (jn_ J) (jn_le J) σ hJ.1 (nI b)) (cwX1_journaled hts rfl rfl ⟨by decide, by decide⟩) rfl hl.1 (rest := []) (by simp [Value.category]) rfl dX1_isUnsafe_3 (fun v1 σ1 H locs hp hI => ?_)
  obtain ⟨hs, hp⟩ := hp
  rw [hs] at hI
  rcases hp with ⟨rfl, hm⟩ | ⟨i, hi, rfl, hq⟩
  · have hnone := fsJ_miss hJ hb16 hm
    refine lv_istore_n (lv' := [(3, .int ((-1))), (0, .ref (h 0)), (1, .int (nI n)), (2, .int (nI b))]) hx hb dX1_isUnsafe_6 rfl hl (by decide) rfl (fun ls hl => ?_)
    refine lv_iload_n hx hb dX1_isUnsafe_7 rfl (lv_at hl 0 rfl) ?_
    refine lv_if_lt (tgt := 13) hx hb dX1_isUnsafe_8 (by decide) (fun q => ?_) (fun q => ?_)
    · skip
      refine lv_aload_n hx hb dX1_isUnsafe_13 rfl (lv_at hl 1 rfl) ?_
      refine lv_iload_n hx hb dX1_isUnsafe_14 rfl (lv_at hl 2 rfl) ?_
      refine lv_iload_n hx hb dX1_isUnsafe_15 rfl (lv_at hl 3 rfl) ?_
      refine ob_calli hX hAA hI rfl (M_cached l D h d R n hR hn σ (nI b)) (cwX1_cached hts rfl rfl ⟨by decide, by decide⟩) rfl hl.1 (rest := []) (by simp [Value.category]) rfl dX1_isUnsafe_16 (fun v2 σ1 H locs hp hI => ?_)
      obtain ⟨hs, hp⟩ := hp
      rw [hs] at hI
      rcases hp with ⟨rfl, hm2⟩ | ⟨i, hi, rfl, hq⟩
      · have hcn := fsC_miss hC hb16 hm2
        refine lv_istore (lv' := [(4, .int ((-1))), (3, .int ((-1))), (0, .ref (h 0)), (1, .int (nI n)), (2, .int (nI b))]) hx hb dX1_isUnsafe_19 hl (by decide) rfl (fun ls hl => ?_)
        refine lv_iload hx hb dX1_isUnsafe_21 (lv_at hl 0 rfl) ?_
        refine lv_if_lt (tgt := 40) hx hb dX1_isUnsafe_23 (by decide) (fun q2 => ?_) (fun q2 => ?_)
        · skip
          refine lv_iconst (v := 0) hx hb dX1_isUnsafe_40 (by decide) ?_
          exact hret _ _ _ _ _ _ rfl ⟨rfl, Or.inr ⟨rfl, by rw [hcn, hnone]; rfl⟩⟩ hI dX1_isUnsafe_41
        · exact absurd (by decide) q2
      · have hch := fsC_hit hC hb16 hi hq
        refine lv_istore (lv' := [(4, .int (nI (n * 8 + i))), (3, .int ((-1))), (0, .ref (h 0)), (1, .int (nI n)), (2, .int (nI b))]) hx hb dX1_isUnsafe_19 hl (by decide) rfl (fun ls hl => ?_)
        refine lv_iload hx hb dX1_isUnsafe_21 (lv_at hl 0 rfl) ?_
        refine lv_if_lt (tgt := 40) hx hb dX1_isUnsafe_23 (by decide) (fun q2 => ?_) (fun q2 => ?_)
        · exact absurd q2 (nI_pos (by omega))
        · skip
          refine lv_aload_n hx hb dX1_isUnsafe_26 rfl (lv_at hl 2 rfl) ?_
          refine fs_g11 hX hI dX1_isUnsafe_27 ?_
          refine lv_iload hx hb dX1_isUnsafe_30 (lv_at hl 0 rfl) ?_
          refine ob_zld hX hI 11 rfl (n * 8 + i) (by omega) (by decide) dX1_isUnsafe_32 ?_
          refine lv_if_eq (tgt := 40) hx hb dX1_isUnsafe_33 (by decide) (fun q3 => ?_) (fun q3 => ?_)
          · skip
            refine lv_iconst (v := 0) hx hb dX1_isUnsafe_40 (by decide) ?_
            exact hret _ _ _ _ _ _ rfl ⟨rfl, Or.inr ⟨rfl, by rw [hch, hnone, q3, vw_clean]⟩⟩ hI dX1_isUnsafe_41
          · skip
            refine lv_iconst (v := 1) hx hb dX1_isUnsafe_36 (by decide) ?_
            refine lv_goto (tgt := 41) hx hb dX1_isUnsafe_37 (by decide) ?_
            exact hret _ _ _ _ _ _ rfl ⟨rfl, Or.inl ⟨rfl, by rw [hch, vw_dirty _ _ q3]; rfl⟩⟩ hI dX1_isUnsafe_41
    · exact absurd (by decide) q
  · have hhit := fsJ_hit hJ hb16 hi hq
    refine lv_istore_n (lv' := [(3, .int (nI (n * 16 + i))), (0, .ref (h 0)), (1, .int (nI n)), (2, .int (nI b))]) hx hb dX1_isUnsafe_6 rfl hl (by decide) rfl (fun ls hl => ?_)
    refine lv_iload_n hx hb dX1_isUnsafe_7 rfl (lv_at hl 0 rfl) ?_
    refine lv_if_lt (tgt := 13) hx hb dX1_isUnsafe_8 (by decide) (fun q => ?_) (fun q => ?_)
    · exact absurd q (nI_pos (by omega))
    · skip
      refine lv_iconst (v := 1) hx hb dX1_isUnsafe_11 (by decide) ?_
      exact hret _ _ _ _ _ _ rfl ⟨rfl, Or.inl ⟨rfl, vw_J (by rw [hhit]; rfl)⟩⟩ hI dX1_isUnsafe_12
set_option maxHeartbeats 4000000 in
/-- how many open writes has the node? -/
theorem M_unsafeCount (l : Launch) (D : va_G) (h : Nat → Nat) (d : Nat → ClassId) (R n : Nat) (hR : R ≤ 8) (hn : n < 3) (σ : FS) (J : Nat → Option Int32) (C : Nat → Option (Int32 × Int32)) (hJ : fsJ σ n J) (hC : fsC σ R n C) : ob_Mi l yX1_unsafeCount cX1_unsafeCount 5 (some .int) rmX1_unsafeCount D 0 [.int (nI R)] fsKs h d σ [.int (nI n)] (fun v σ1 => σ1 = σ ∧ v = nI (jn_ (fun b => vw_ (J b) (C b)))) := by
  refine ob_ofWi (C := RX1) (by decide) rfl (Nat.le_of_ble_eq_true rfl) ?_
  intro p e s m args below meth c A Q ls hX hAA hI hret hl
  have hx := hX.1.1
  have hb := hX.1.2.1
  have hts := hX.1.2.2.2.2
  have hl : lv_has ls 5 [(0, .ref (h 0)), (1, .int (nI n))] := hl
  have hj16 := jn_le J
  refine lv_aload_n hx hb dX1_unsafeCount_0 rfl (lv_at hl 0 rfl) ?_
  refine fs_g3 hX hI dX1_unsafeCount_1 ?_
  refine lv_iload_n hx hb dX1_unsafeCount_4 rfl (lv_at hl 1 rfl) ?_
  refine ob_ld hX hI 3 rfl (n) (by omega) (by decide) dX1_unsafeCount_5 ?_
  refine n_top (y := nI (jn_ J)) hJ.1 ?_
  refine lv_istore_n (lv' := [(2, .int (nI (jn_ J))), (0, .ref (h 0)), (1, .int (nI n))]) hx hb dX1_unsafeCount_6 rfl hl (by decide) rfl (fun ls hl => ?_)
  refine lv_iload_n hx hb dX1_unsafeCount_7 rfl (lv_at hl 2 rfl) ?_
  refine lv_bipush (v := nI 8) hx hb dX1_unsafeCount_8 (by decide) ?_
  refine n_imul hx hb dX1_unsafeCount_10 ?_
  refine lv_istore_n (lv' := [(3, .int (nI (n * 8))), (2, .int (nI (jn_ J))), (0, .ref (h 0)), (1, .int (nI n))]) hx hb dX1_unsafeCount_11 rfl hl (by decide) rfl (fun ls hl => ?_)
  have loop : ∀ (k i a : Nat) (ls : Array Slot) (H : Heap) (locs : List Loc), R < i + k → i ≤ R → a = cq_ σ n J i → ob_I D 0 [.int (nI R)] fsKs h d σ A s.heap H locs → lv_has ls 5 [(3, .int (nI (n * 8 + i))), (2, .int (nI a)), (0, .ref (h 0)), (1, .int (nI n))] → W p l e rmX1_unsafeCount s m args below meth c H locs 0 0 Q (F0 m 12 ls []) := by
    intro k
    induction k with
    | zero => intro i a ls H locs h1 h2; exact absurd h1 (by omega)
    | succ k ih =>
      intro i a ls H locs hk hi ha hI hl
      refine lv_iload_n hx hb dX1_unsafeCount_12 rfl (lv_at hl 0 rfl) ?_
      refine lv_iload_n hx hb dX1_unsafeCount_13 rfl (lv_at hl 3 rfl) ?_
      refine lv_bipush (v := nI 8) hx hb dX1_unsafeCount_14 (by decide) ?_
      refine n_imul hx hb dX1_unsafeCount_16 ?_
      refine lv_aload_n hx hb dX1_unsafeCount_17 rfl (lv_at hl 2 rfl) ?_
      refine fs_g0 hX hI dX1_unsafeCount_18 ?_
      refine n_iadd hx hb dX1_unsafeCount_21 ?_
      refine n_icmp_ge (tgt := 61) hx hb dX1_unsafeCount_22 (by decide) (by omega) (by omega) (fun q => ?_) (fun q => ?_)
      · skip
        have hi : i = R := by omega
        subst hi
        refine lv_iload_n hx hb dX1_unsafeCount_61 rfl (lv_at hl 1 rfl) ?_
        exact hret _ _ _ _ _ _ ⟨rfl, by rw [ha, cq_end hC]⟩ hI dX1_unsafeCount_62
      · skip
        refine lv_aload_n hx hb dX1_unsafeCount_25 rfl (lv_at hl 2 rfl) ?_
        refine fs_g11 hX hI dX1_unsafeCount_26 ?_
        refine lv_iload_n hx hb dX1_unsafeCount_29 rfl (lv_at hl 0 rfl) ?_
        refine ob_zld hX hI 11 rfl (n * 8 + i) (by omega) (by decide) dX1_unsafeCount_30 ?_
        refine lv_if_eq (tgt := 55) hx hb dX1_unsafeCount_31 (by decide) (fun q2 => ?_) (fun q2 => ?_)
        · skip
          refine n_iinc (k := 0) (lv' := [(3, .int (nI (n * 8 + i + 1))), (2, .int (nI a)), (0, .ref (h 0)), (1, .int (nI n))]) hx hb dX1_unsafeCount_55 hl rfl (by decide) rfl (fun ls hl => ?_)
          refine lv_goto (tgt := 12) hx hb dX1_unsafeCount_58 (by decide) ?_
          exact ih (i + 1) a ls H locs (by omega) (by omega) (by rw [ha, cq_clean q2]) hI hl
        · obtain ⟨b, hb16, hqb, hcb⟩ := fsC_dirty hC (by omega) q2
          refine lv_aload_n hx hb dX1_unsafeCount_34 rfl (lv_at hl 2 rfl) ?_
          refine lv_iload_n hx hb dX1_unsafeCount_35 rfl (lv_at hl 3 rfl) ?_
          refine lv_aload_n hx hb dX1_unsafeCount_36 rfl (lv_at hl 2 rfl) ?_
          refine fs_g9 hX hI dX1_unsafeCount_37 ?_
          refine lv_iload_n hx hb dX1_unsafeCount_40 rfl (lv_at hl 0 rfl) ?_
          refine ob_ld hX hI 9 rfl (n * 8 + i) (by omega) (by decide) dX1_unsafeCount_41 ?_
          refine n_top (y := nI b) hqb ?_
          refine ob_calli hX hAA hI rfl (M_journaled l D h d R n hn (jn_ J) (jn_le J) σ hJ.1 (nI b)) (cwX1_journaled hts rfl rfl ⟨by decide, by decide⟩) rfl hl.1 (rest := []) (by simp [Value.category]) rfl dX1_unsafeCount_42 (fun v1 σ1 H locs hp hI => ?_)
          obtain ⟨hs, hp⟩ := hp
          rw [hs] at hI
          rcases hp with ⟨rfl, hm⟩ | ⟨z, hz, rfl, hq⟩
          · have hnone := fsJ_miss hJ hb16 hm
            refine lv_istore (lv' := [(4, .int ((-1))), (3, .int (nI (n * 8 + i))), (2, .int (nI a)), (0, .ref (h 0)), (1, .int (nI n))]) hx hb dX1_unsafeCount_45 hl (by decide) rfl (fun ls hl => ?_)
            refine lv_iload hx hb dX1_unsafeCount_47 (lv_at hl 0 rfl) ?_
            refine lv_if_ge (tgt := 55) hx hb dX1_unsafeCount_49 (by decide) (fun q3 => ?_) (fun q3 => ?_)
            · exact absurd q3 (by decide)
            · skip
              refine n_iinc (k := 2) (lv' := [(2, .int (nI (a + 1))), (4, .int ((-1))), (3, .int (nI (n * 8 + i))), (0, .ref (h 0)), (1, .int (nI n))]) hx hb dX1_unsafeCount_52 hl rfl (by decide) rfl (fun ls hl => ?_)
              refine n_iinc (k := 2) (lv' := [(3, .int (nI (n * 8 + i + 1))), (2, .int (nI (a + 1))), (4, .int ((-1))), (0, .ref (h 0)), (1, .int (nI n))]) hx hb dX1_unsafeCount_55 hl rfl (by decide) rfl (fun ls hl => ?_)
              refine lv_goto (tgt := 12) hx hb dX1_unsafeCount_58 (by decide) ?_
              exact ih (i + 1) (a + 1) ls H locs (by omega) (by omega) (by rw [ha, cq_new hC (by omega) hb16 q2 hqb hnone]) hI (lv_sub hl [0, 1, 3, 4] rfl)
          · have hhit := fsJ_hit hJ hb16 hz hq
            refine lv_istore (lv' := [(4, .int (nI (n * 16 + z))), (3, .int (nI (n * 8 + i))), (2, .int (nI a)), (0, .ref (h 0)), (1, .int (nI n))]) hx hb dX1_unsafeCount_45 hl (by decide) rfl (fun ls hl => ?_)
            refine lv_iload hx hb dX1_unsafeCount_47 (lv_at hl 0 rfl) ?_
            refine lv_if_ge (tgt := 55) hx hb dX1_unsafeCount_49 (by decide) (fun q3 => ?_) (fun q3 => ?_)
            · skip
              refine n_iinc (k := 1) (lv' := [(3, .int (nI (n * 8 + i + 1))), (4, .int (nI (n * 16 + z))), (2, .int (nI a)), (0, .ref (h 0)), (1, .int (nI n))]) hx hb dX1_unsafeCount_55 hl rfl (by decide) rfl (fun ls hl => ?_)
              refine lv_goto (tgt := 12) hx hb dX1_unsafeCount_58 (by decide) ?_
              exact ih (i + 1) a ls H locs (by omega) (by omega) (by rw [ha, cq_J hb16 hqb (by rw [hhit]; rfl)]) hI (lv_sub hl [0, 2, 3, 4] rfl)
            · exact absurd (nI_pos' (by omega)) q3
  exact loop (R + 1) 0 (jn_ J) ls _ _ (by omega) (Nat.zero_le _) (cq_0 σ n J).symm hI hl
set_option maxHeartbeats 4000000 in
/-- the open writes of the cache go into the journal -/
theorem M_fillJournal (l : Launch) (D : va_G) (h : Nat → Nat) (d : Nat → ClassId) (R n : Nat) (hR : R ≤ 8) (hn : n < 3) (σ : FS) (J : Nat → Option Int32) (C : Nat → Option (Int32 × Int32)) (hJ : fsJ σ n J) (hC : fsC σ R n C) : ob_Mv l yX1_fillJournal cX1_fillJournal 3 rmX1_fillJournal D 0 [.int (nI R)] fsKs h d σ [.int (nI n)] (fun σ1 => fsJ σ1 n (fun b => vw_ (J b) (C b)) ∧ fsC σ1 R n (cl_ C) ∧ (∀ k, k ≠ 3 → k ≠ 4 → k ≠ 5 → k ≠ 11 → σ1 k = σ k) ∧ oth_ n σ σ1) := by
  refine ob_ofWv (C := RX1) (by decide) rfl (Nat.le_of_ble_eq_true rfl) ?_
  intro p e s m args below meth c A Q ls hX hAA hI hret hl
  have hx := hX.1.1
  have hb := hX.1.2.1
  have hts := hX.1.2.2.2.2
  have hl : lv_has ls 3 [(0, .ref (h 0)), (1, .int (nI n))] := hl
  refine lv_iload_n hx hb dX1_fillJournal_0 rfl (lv_at hl 1 rfl) ?_
  refine lv_bipush (v := nI 8) hx hb dX1_fillJournal_1 (by decide) ?_
  refine n_imul hx hb dX1_fillJournal_3 ?_
  refine lv_istore_n (lv' := [(2, .int (nI (n * 8))), (0, .ref (h 0)), (1, .int (nI n))]) hx hb dX1_fillJournal_4 rfl hl (by decide) rfl (fun ls hl => ?_)
  have loop : ∀ (k i : Nat) (τ : FS) (J1 : Nat → Option Int32) (C1 : Nat → Option (Int32 × Int32)) (H : Heap) (locs : List Loc) (ls : Array Slot), R < i + k → i ≤ R → fsJ τ n J1 → fsC τ R n C1 → (∀ b, b < 16 → vw_ (J1 b) (C1 b) = vw_ (J b) (C b) ∧ (C1 b).map Prod.fst = (C b).map Prod.fst) → (∀ j, j < i → τ 11 (n * 8 + j) = 0) → (∀ k, k ≠ 3 → k ≠ 4 → k ≠ 5 → k ≠ 11 → τ k = σ k) → oth_ n σ τ → ob_I D 0 [.int (nI R)] fsKs h d τ A s.heap H locs → lv_has ls 3 [(2, .int (nI (n * 8 + i))), (0, .ref (h 0)), (1, .int (nI n))] → W p l e rmX1_fillJournal s m args below meth c H locs 0 0 Q (F0 m 5 ls []) := by
    intro k
    induction k with
    | zero => intro i τ J1 C1 H locs ls h1 h2; exact absurd h1 (by omega)
    | succ k ih =>
      intro i τ J1 C1 H locs ls hk hi hJ1 hC1 hvw hz hfr ho hI hl
      refine lv_iload_n hx hb dX1_fillJournal_5 rfl (lv_at hl 0 rfl) ?_
      refine lv_iload_n hx hb dX1_fillJournal_6 rfl (lv_at hl 2 rfl) ?_
      refine lv_bipush (v := nI 8) hx hb dX1_fillJournal_7 (by decide) ?_
      refine n_imul hx hb dX1_fillJournal_9 ?_
      refine lv_aload_n hx hb dX1_fillJournal_10 rfl (lv_at hl 1 rfl) ?_
      refine fs_g0 hX hI dX1_fillJournal_11 ?_
      refine n_iadd hx hb dX1_fillJournal_14 ?_
      refine n_icmp_ge (tgt := 57) hx hb dX1_fillJournal_15 (by decide) (by omega) (by omega) (fun q => ?_) (fun q => ?_)
      · skip
        have hE := fill_end hC1 (fun j hj => hz j (by omega)) hvw
        exact hret _ _ _ _ _ ⟨fsJ_ext hJ1 (fun b hb => (hE b hb).1), fsC_ext hC1 (fun b hb => (hE b hb).2), hfr, ho⟩ hI dX1_fillJournal_57
      · skip
        refine lv_aload_n hx hb dX1_fillJournal_18 rfl (lv_at hl 1 rfl) ?_
        refine fs_g11 hX hI dX1_fillJournal_19 ?_
        refine lv_iload_n hx hb dX1_fillJournal_22 rfl (lv_at hl 0 rfl) ?_
        refine ob_zld hX hI 11 rfl (n * 8 + i) (by omega) (by decide) dX1_fillJournal_23 ?_
        refine lv_if_eq (tgt := 51) hx hb dX1_fillJournal_24 (by decide) (fun q2 => ?_) (fun q2 => ?_)
        · skip
          refine n_iinc (k := 0) (lv' := [(2, .int (nI (n * 8 + i + 1))), (0, .ref (h 0)), (1, .int (nI n))]) hx hb dX1_fillJournal_51 hl rfl (by decide) rfl (fun ls hl => ?_)
          refine lv_goto (tgt := 5) hx hb dX1_fillJournal_54 (by decide) ?_
          exact ih (i + 1) τ J1 C1 H locs ls (by omega) (by omega) hJ1 hC1 hvw (lt_s hz q2) hfr ho hI hl
        · obtain ⟨b, hb16, hqb, hcb⟩ := fsC_dirty hC1 (by omega) q2
          refine lv_aload_n hx hb dX1_fillJournal_27 rfl (lv_at hl 1 rfl) ?_
          refine lv_iload_n hx hb dX1_fillJournal_28 rfl (lv_at hl 2 rfl) ?_
          refine lv_aload_n hx hb dX1_fillJournal_29 rfl (lv_at hl 1 rfl) ?_
          refine fs_g9 hX hI dX1_fillJournal_30 ?_
          refine lv_iload_n hx hb dX1_fillJournal_33 rfl (lv_at hl 0 rfl) ?_
          refine ob_ld hX hI 9 rfl (n * 8 + i) (by omega) (by decide) dX1_fillJournal_34 ?_
          refine n_top (y := nI (b)) hqb ?_
          refine lv_aload_n hx hb dX1_fillJournal_35 rfl (lv_at hl 1 rfl) ?_
          refine fs_g10 hX hI dX1_fillJournal_36 ?_
          refine lv_iload_n hx hb dX1_fillJournal_39 rfl (lv_at hl 0 rfl) ?_
          refine ob_ld hX hI 10 rfl (n * 8 + i) (by omega) (by decide) dX1_fillJournal_40 ?_
          refine ob_callv hX hAA hI rfl (M_writeJournal l D h d R n b hn hb16 (τ 10 (n * 8 + i)) τ J1 hJ1) (cwX1_writeJournal hts rfl rfl ⟨by decide, by decide⟩) rfl hl.1 (rest := []) (by simp [Value.category]) rfl dX1_fillJournal_41 (fun τ1 H locs hp hI => ?_)
          obtain ⟨hJ2, hfr2, ho2⟩ := hp
          have ho3 := oth_wj hfr2 ho2
          have hC2 := fsC_cong hC1 hR (show τ1 12 n = τ 12 n by rw [hfr2 12 (by decide) (by decide) (by decide)]) (fun j _ => show τ1 9 (n * 8 + j) = τ 9 (n * 8 + j) by rw [hfr2 9 (by decide) (by decide) (by decide)]) (fun j _ => show τ1 10 (n * 8 + j) = τ 10 (n * 8 + j) by rw [hfr2 10 (by decide) (by decide) (by decide)]) (fun j _ => show τ1 11 (n * 8 + j) = τ 11 (n * 8 + j) by rw [hfr2 11 (by decide) (by decide) (by decide)])
          refine lv_aload_n hx hb dX1_fillJournal_44 rfl (lv_at hl 1 rfl) ?_
          refine fs_g11 hX hI dX1_fillJournal_45 ?_
          refine lv_iload_n hx hb dX1_fillJournal_48 rfl (lv_at hl 0 rfl) ?_
          refine lv_iconst (v := 0) hx hb dX1_fillJournal_49 (by decide) ?_
          refine ob_zst hX hI 11 rfl (n * 8 + i) (by omega) (by decide) (by decide) dX1_fillJournal_50 (fun H locs hI => ?_)
          refine n_iinc (k := 0) (lv' := [(2, .int (nI (n * 8 + i + 1))), (0, .ref (h 0)), (1, .int (nI n))]) hx hb dX1_fillJournal_51 hl rfl (by decide) rfl (fun ls hl => ?_)
          refine lv_goto (tgt := 5) hx hb dX1_fillJournal_54 (by decide) ?_
          refine ih (i + 1) _ (va_up J1 b (some (τ 10 (n * 8 + i)))) (va_up C1 b (some (τ 10 (n * 8 + i), 0))) H locs ls (by omega) (by omega) ?_ ?_ ?_ ?_ ?_ ?_ hI hl
          · exact fsJ_cong hJ2 (st_ne _ _ (Or.inl (by decide))) (fun j _ => st_ne _ _ (Or.inl (by decide))) (fun j _ => st_ne _ _ (Or.inl (by decide)))
          · refine fsC_set (i := i) hC2 hb16 (by omega) (by rw [hfr2 9 (by decide) (by decide) (by decide)]; exact hqb) (st_o _ _ _ (by decide)) (st_o _ _ _ (by decide)) (fun j => ?_) (fun j => ?_)
            · rw [st_ne _ _ (Or.inl (by decide)), hfr2 10 (by decide) (by decide) (by decide)]
              by_cases e : j = i
              · rw [if_pos e, e]
              · rw [if_neg e]
            · by_cases e : j = i
              · rw [if_pos e, e, st_at]
              · rw [if_neg e, st_ne _ _ (Or.inr (by omega))]
          · intro b1 hb1
            obtain ⟨v1, v2⟩ := hvw b1 hb1
            by_cases e : b1 = b
            · subst e
              rw [up_s, up_s, vw_clean]
              rw [hcb, vw_dirty _ _ q2] at v1
              rw [hcb] at v2
              exact ⟨v1, v2⟩
            · rw [up_n _ _ e, up_n _ _ e]
              exact ⟨v1, v2⟩
          · intro j hj
            by_cases e : j = i
            · rw [e, st_at]
            · rw [st_ne _ _ (Or.inr (by omega)), hfr2 11 (by decide) (by decide) (by decide)]
              exact hz j (by omega)
          · intro k k3 k4 k5 k11
            rw [st_o _ _ _ k11, hfr2 k k3 k4 k5]
            exact hfr k k3 k4 k5 k11
          · exact oth_tr ho (oth_tr ho3 (oth_cell _ _ (by omega) (Or.inr (Or.inr rfl))))
  exact loop (R + 1) 0 σ J C _ _ ls (by omega) (Nat.zero_le _) hJ hC (fun b _ => ⟨rfl, rfl⟩) (fun j hj => absurd hj (Nat.not_lt_zero j)) (fun _ _ _ _ _ => rfl) (oth_rf n σ) hI hl
set_option maxHeartbeats 4000000 in
/-- the open writes of the node go home -/
theorem M_makeSafe (l : Launch) (D : va_G) (h : Nat → Nat) (d : Nat → ClassId) (R n : Nat) (hR : R ≤ 8) (hn : n < 3) (σ : FS) (J : Nat → Option Int32) (C : Nat → Option (Int32 × Int32)) (hJ : fsJ σ n J) (hC : fsC σ R n C) : ob_Mi l yX1_makeSafe cX1_makeSafe 3 (some .int) rmX1_makeSafe D 0 [.int (nI R)] fsKs h d σ [.int (nI n)] (fun v σ1 => v = nI (jn_ (fun b => vw_ (J b) (C b))) ∧ fsJ σ1 n (fun _ => none) ∧ fsC σ1 R n (cl_ C) ∧ (∀ b, b < 16 → σ1 2 b = (vw_ (J b) (C b)).getD (σ 2 b)) ∧ σ1 7 = upd (σ 7) n 0 ∧ σ1 1 = σ 1 ∧ σ1 8 = σ 8 ∧ oth_ n σ σ1) := by
  refine ob_ofWi (C := RX1) (by decide) rfl (Nat.le_of_ble_eq_true rfl) ?_
  intro p e s m args below meth c A Q ls hX hAA hI hret hl
  have hx := hX.1.1
  have hb := hX.1.2.1
  have hts := hX.1.2.2.2.2
  have hl : lv_has ls 3 [(0, .ref (h 0)), (1, .int (nI n))] := hl
  refine lv_aload_n hx hb dX1_makeSafe_0 rfl (lv_at hl 0 rfl) ?_
  refine lv_iload_n hx hb dX1_makeSafe_1 rfl (lv_at hl 1 rfl) ?_
  refine ob_calli hX hAA hI rfl (M_unsafeCount l D h d R n hR hn σ J C hJ hC) (cwX1_unsafeCount hts rfl rfl ⟨by decide, by decide⟩) rfl hl.1 (rest := []) (by simp [Value.category]) rfl dX1_makeSafe_2 (fun v1 σ1 H locs hp hI => ?_)
  obtain ⟨hs, hv⟩ := hp
  rw [hs] at hI
  refine lv_istore_n (lv' := [(2, .int v1), (0, .ref (h 0)), (1, .int (nI n))]) hx hb dX1_makeSafe_5 rfl hl (by decide) rfl (fun ls hl => ?_)
  refine lv_aload_n hx hb dX1_makeSafe_6 rfl (lv_at hl 1 rfl) ?_
  refine lv_iload_n hx hb dX1_makeSafe_7 rfl (lv_at hl 2 rfl) ?_
  refine ob_callv hX hAA hI rfl (M_fillJournal l D h d R n hR hn σ J C hJ hC) (cwX1_fillJournal hts rfl rfl ⟨by decide, by decide⟩) rfl hl.1 (rest := []) (by simp [Value.category]) rfl dX1_makeSafe_8 (fun τ H locs hp hI => ?_)
  obtain ⟨hJ1, hC1, hfr, ho⟩ := hp
  refine lv_aload_n hx hb dX1_makeSafe_11 rfl (lv_at hl 1 rfl) ?_
  refine lv_iload_n hx hb dX1_makeSafe_12 rfl (lv_at hl 2 rfl) ?_
  refine ob_callv hX hAA hI rfl (M_markJournal l D h d R n hn _ (jn_le _) τ hJ1.1) (cwX1_markJournal hts rfl rfl ⟨by decide, by decide⟩) rfl hl.1 (rest := []) (by simp [Value.category]) rfl dX1_makeSafe_13 (fun σ2 H locs hp hI => ?_)
  subst hp
  have hJ2 : fsJ (st_ (st_ τ 6 n (fsS τ n)) 7 n 1) n (fun b => vw_ (J b) (C b)) := fsJ_cong hJ1 (by rw [st_ne _ _ (Or.inl (by decide)), st_ne _ _ (Or.inl (by decide))]) (fun j _ => by rw [st_ne _ _ (Or.inl (by decide)), st_ne _ _ (Or.inl (by decide))]) (fun j _ => by rw [st_ne _ _ (Or.inl (by decide)), st_ne _ _ (Or.inl (by decide))])
  refine lv_aload_n hx hb dX1_makeSafe_16 rfl (lv_at hl 1 rfl) ?_
  refine lv_iload_n hx hb dX1_makeSafe_17 rfl (lv_at hl 2 rfl) ?_
  refine ob_callv hX hAA hI rfl (M_bringHome l D h d R n hn _ _ hJ2) (cwX1_bringHome hts rfl rfl ⟨by decide, by decide⟩) rfl hl.1 (rest := []) (by simp [Value.category]) rfl dX1_makeSafe_18 (fun σ3 H locs hp hI => ?_)
  obtain ⟨hh, h3, h7, hfr3⟩ := hp
  refine lv_iload_n hx hb dX1_makeSafe_21 rfl (lv_at hl 0 rfl) ?_
  refine hret _ _ _ _ _ _ ⟨hv, fsJ_none (by rw [h3]; simp [upd]), ?_, fun b hb => ?_, ?_, ?_, ?_, ?_⟩ hI dX1_makeSafe_22
  · refine fsC_cong hC1 hR ?_ (fun j _ => ?_) (fun j _ => ?_) (fun j _ => ?_)
    · rw [hfr3 12 (by decide) (by decide) (by decide), st_ne _ _ (Or.inl (by decide)), st_ne _ _ (Or.inl (by decide))]
    · rw [hfr3 9 (by decide) (by decide) (by decide), st_ne _ _ (Or.inl (by decide)), st_ne _ _ (Or.inl (by decide))]
    · rw [hfr3 10 (by decide) (by decide) (by decide), st_ne _ _ (Or.inl (by decide)), st_ne _ _ (Or.inl (by decide))]
    · rw [hfr3 11 (by decide) (by decide) (by decide), st_ne _ _ (Or.inl (by decide)), st_ne _ _ (Or.inl (by decide))]
  · rw [hh b hb, st_ne _ _ (Or.inl (by decide)), st_ne _ _ (Or.inl (by decide)), hfr 2 (by decide) (by decide) (by decide) (by decide)]
  · rw [h7, st_k, st_o _ _ _ (by decide), hfr 7 (by decide) (by decide) (by decide) (by decide)]
    funext j
    by_cases e : j = n <;> simp [upd, e]
  · rw [hfr3 1 (by decide) (by decide) (by decide), st_o _ _ _ (by decide), st_o _ _ _ (by decide), hfr 1 (by decide) (by decide) (by decide) (by decide)]
  · rw [hfr3 8 (by decide) (by decide) (by decide), st_o _ _ _ (by decide), st_o _ _ _ (by decide), hfr 8 (by decide) (by decide) (by decide) (by decide)]
  · refine oth_tr ho (oth_tr (oth_tr (oth_any τ (fsS τ n) (k := 6) (j := n) (by omega)) (oth_any _ 1 (k := 7) (j := n) (by omega))) ?_)
    intro a ha
    refine ⟨?_, ?_, fun i hi => ⟨?_, ?_⟩, fun i hi => ⟨?_, ?_, ?_⟩⟩
    · rw [h3]; simp [upd, ha]
    · rw [hfr3 12 (by decide) (by decide) (by decide)]
    · rw [hfr3 4 (by decide) (by decide) (by decide)]
    · rw [hfr3 5 (by decide) (by decide) (by decide)]
    · rw [hfr3 9 (by decide) (by decide) (by decide)]
    · rw [hfr3 10 (by decide) (by decide) (by decide)]
    · rw [hfr3 11 (by decide) (by decide) (by decide)]
end
section
/-! CONTRACTS of SharedDiskFs: forget, freeCell, bringIn -/
set_option maxRecDepth 100000
set_option maxHeartbeats 4000000 in
/-- the block leaves the cache -/
theorem M_forget (l : Launch) (D : va_G) (h : Nat → Nat) (d : Nat → ClassId) (R n b : Nat) (hR : R ≤ 8) (hn : n < 3) (hb16 : b < 16) (σ : FS) (C : Nat → Option (Int32 × Int32)) (hC : fsC σ R n C) : ob_Mv l yX1_forget cX1_forget 4 rmX1_forget D 0 [.int (nI R)] fsKs h d σ [.int (nI n), .int (nI b)] (fun σ1 => fsC σ1 R n (va_up C b none) ∧ (∀ k, k ≠ 9 → k ≠ 11 → σ1 k = σ k) ∧ oth_ n σ σ1) := by
  refine ob_ofWv (C := RX1) (by decide) rfl (Nat.le_of_ble_eq_true rfl) ?_
  intro p e s m args below meth c A Q ls hX hAA hI hret hl
  have hx := hX.1.1
  have hb := hX.1.2.1
  have hts := hX.1.2.2.2.2
  have hl : lv_has ls 4 [(0, .ref (h 0)), (1, .int (nI n)), (2, .int (nI b))] := hl
  refine lv_aload_n hx hb dX1_forget_0 rfl (lv_at hl 0 rfl) ?_
  refine lv_iload_n hx hb dX1_forget_1 rfl (lv_at hl 1 rfl) ?_
  refine lv_iload_n hx hb dX1_forget_2 rfl (lv_at hl 2 rfl) ?_
  refine ob_calli hX hAA hI rfl (M_cached l D h d R n hR hn σ (nI b)) (cwX1_cached hts rfl rfl ⟨by decide, by decide⟩) rfl hl.1 (rest := []) (by simp [Value.category]) rfl dX1_forget_3 (fun v2 σ1 H locs hp hI => ?_)
  obtain ⟨hs, hp⟩ := hp
  rw [hs] at hI
  rcases hp with ⟨rfl, hm2⟩ | ⟨i, hi, rfl, hq⟩
  · have hcn := fsC_miss hC hb16 hm2
    refine lv_istore_n (lv' := [(3, .int ((-1))), (0, .ref (h 0)), (1, .int (nI n)), (2, .int (nI b))]) hx hb dX1_forget_6 rfl hl (by decide) rfl (fun ls hl => ?_)
    refine lv_iload_n hx hb dX1_forget_7 rfl (lv_at hl 0 rfl) ?_
    refine lv_if_lt (tgt := 16) hx hb dX1_forget_8 (by decide) (fun q2 => ?_) (fun q2 => ?_)
    · skip
      exact hret _ _ _ _ _ ⟨fsC_ext hC (fun b1 _ => if e : b1 = b then by rw [e, up_s, hcn] else by rw [up_n _ _ e]), fun _ _ _ => rfl, oth_rf n σ⟩ hI dX1_forget_16
    · exact absurd (by decide) q2
  · skip
    refine lv_istore_n (lv' := [(3, .int (nI (n * 8 + i))), (0, .ref (h 0)), (1, .int (nI n)), (2, .int (nI b))]) hx hb dX1_forget_6 rfl hl (by decide) rfl (fun ls hl => ?_)
    refine lv_iload_n hx hb dX1_forget_7 rfl (lv_at hl 0 rfl) ?_
    refine lv_if_lt (tgt := 16) hx hb dX1_forget_8 (by decide) (fun q2 => ?_) (fun q2 => ?_)
    · exact absurd q2 (nI_pos (by omega))
    · skip
      refine lv_aload_n hx hb dX1_forget_11 rfl (lv_at hl 1 rfl) ?_
      refine lv_iload_n hx hb dX1_forget_12 rfl (lv_at hl 0 rfl) ?_
      refine ob_callv hX hAA hI rfl (M_dropCell l D h d R (n * 8 + i) (by omega) σ) (cwX1_dropCell hts rfl rfl ⟨by decide, by decide⟩) rfl hl.1 (rest := []) (by simp [Value.category]) rfl dX1_forget_13 (fun σ2 H locs hp hI => ?_)
      subst hp
      exact hret _ _ _ _ _ ⟨fsC_drop hC hb16 hi hq, fun k k9 k11 => by rw [st_o _ _ _ k11, st_o _ _ _ k9], oth_tr (oth_cell σ (-1) (by omega) (Or.inl rfl)) (oth_cell _ 0 (by omega) (Or.inr (Or.inr rfl)))⟩ hI dX1_forget_16
set_option maxHeartbeats 4000000 in
/-- a free cell of the cache -/
theorem M_freeCell (l : Launch) (D : va_G) (h : Nat → Nat) (d : Nat → ClassId) (R n : Nat) (h2R : 2 ≤ R) (hR : R ≤ 8) (hn : n < 3) (σ : FS) (J : Nat → Option Int32) (C : Nat → Option (Int32 × Int32)) (hJ : fsJ σ n J) (hC : fsC σ R n C) : ob_Mi l yX1_freeCell cX1_freeCell 4 (some .int) rmX1_freeCell D 0 [.int (nI R)] fsKs h d σ [.int (nI n)] (fun v σ1 => ∃ (i : Nat) (J1 : Nat → Option Int32) (C1 : Nat → Option (Int32 × Int32)), i < R ∧ v = nI (n * 8 + i) ∧ σ1 9 (n * 8 + i) = -1 ∧ σ1 11 (n * 8 + i) = 0 ∧ fsJ σ1 n J1 ∧ fsC σ1 R n C1 ∧ (∀ b, b < 16 → vw_ (J1 b) (C1 b) = vw_ (J b) (C b) ∧ (C1 b = C b ∨ C1 b = none)) ∧ (∀ k, k ≠ 3 → k ≠ 4 → k ≠ 5 → k ≠ 9 → k ≠ 11 → k ≠ 12 → σ1 k = σ k) ∧ oth_ n σ σ1) := by
  refine ob_ofWi (C := RX1) (by decide) rfl (Nat.le_of_ble_eq_true rfl) ?_
  intro p e s m args below meth c A Q ls hX hAA hI hret hl
  have hx := hX.1.1
  have hb := hX.1.2.1
  have hts := hX.1.2.2.2.2
  have hl : lv_has ls 4 [(0, .ref (h 0)), (1, .int (nI n))] := hl
  refine lv_aload_n hx hb dX1_freeCell_0 rfl (lv_at hl 0 rfl) ?_
  refine lv_iload_n hx hb dX1_freeCell_1 rfl (lv_at hl 1 rfl) ?_
  refine lv_iconst (v := (-1)) hx hb dX1_freeCell_2 (by decide) ?_
  refine ob_calli hX hAA hI rfl (M_cached l D h d R n hR hn σ (-1)) (cwX1_cached hts rfl rfl ⟨by decide, by decide⟩) rfl hl.1 (rest := []) (by simp [Value.category]) rfl dX1_freeCell_3 (fun v2 σ1 H locs hp hI => ?_)
  obtain ⟨hs, hp⟩ := hp
  rw [hs] at hI
  rcases hp with ⟨rfl, hm2⟩ | ⟨i, hi, rfl, hq⟩
  · obtain ⟨t, ht, h12⟩ := hC.1
    have hcell : ∃ b, b < 16 ∧ σ 9 (n * 8 + t) = nI b ∧ C b = some (σ 10 (n * 8 + t), σ 11 (n * 8 + t)) := by
      rcases hC.2.1 t ht with ⟨z, -⟩ | z
      · exact absurd z (hm2 t ht)
      · exact z
    obtain ⟨b, hb16, hqb, hcb⟩ := hcell
    refine lv_istore_n (lv' := [(2, .int ((-1))), (0, .ref (h 0)), (1, .int (nI n))]) hx hb dX1_freeCell_6 rfl hl (by decide) rfl (fun ls hl => ?_)
    refine lv_iload_n hx hb dX1_freeCell_7 rfl (lv_at hl 0 rfl) ?_
    refine lv_if_lt (tgt := 13) hx hb dX1_freeCell_8 (by decide) (fun q2 => ?_) (fun q2 => ?_)
    · skip
      refine lv_iload_n hx hb dX1_freeCell_13 rfl (lv_at hl 2 rfl) ?_
      refine lv_bipush (v := nI 8) hx hb dX1_freeCell_14 (by decide) ?_
      refine n_imul hx hb dX1_freeCell_16 ?_
      refine lv_aload_n hx hb dX1_freeCell_17 rfl (lv_at hl 1 rfl) ?_
      refine fs_g12 hX hI dX1_freeCell_18 ?_
      refine lv_iload_n hx hb dX1_freeCell_21 rfl (lv_at hl 2 rfl) ?_
      refine ob_ld hX hI 12 rfl (n) (by omega) (by decide) dX1_freeCell_22 ?_
      refine n_top (y := nI (t)) h12 ?_
      refine n_iadd hx hb dX1_freeCell_23 ?_
      refine lv_istore_n (lv' := [(3, .int (nI (n * 8 + t))), (2, .int ((-1))), (0, .ref (h 0)), (1, .int (nI n))]) hx hb dX1_freeCell_24 rfl hl (by decide) rfl (fun ls hl => ?_)
      have tail : ∀ (t1 : Nat) (H : Heap) (locs : List Loc) (ls : Array Slot), t1 < R → ob_I D 0 [.int (nI R)] fsKs h d (st_ σ 12 n (nI t1)) A s.heap H locs → lv_has ls 4 [(3, .int (nI (n * 8 + t))), (2, .int ((-1))), (0, .ref (h 0)), (1, .int (nI n))] → W p l e rmX1_freeCell s m args below meth c H locs 0 0 Q (F0 m 58 ls []) := by
        intro t1 H locs ls ht1 hI hl
        have hJ1 : fsJ (st_ σ 12 n (nI t1)) n J := fsJ_cong hJ (st_ne _ _ (Or.inl (by decide))) (fun _ _ => st_ne _ _ (Or.inl (by decide))) (fun _ _ => st_ne _ _ (Or.inl (by decide)))
        have hC1 : fsC (st_ σ 12 n (nI t1)) R n C := by
          refine ⟨⟨t1, ht1, st_at _ _ _ _⟩, ?_⟩
          rw [st_o _ _ _ (show 9 ≠ 12 by decide), st_o _ _ _ (show 10 ≠ 12 by decide), st_o _ _ _ (show 11 ≠ 12 by decide)]
          exact hC.2
        have h9 : st_ σ 12 n (nI t1) 9 = σ 9 := st_o _ _ _ (by decide)
        have h10 : st_ σ 12 n (nI t1) 10 = σ 10 := st_o _ _ _ (by decide)
        have h11 : st_ σ 12 n (nI t1) 11 = σ 11 := st_o _ _ _ (by decide)
        have hqb1 : st_ σ 12 n (nI t1) 9 (n * 8 + t) = nI b := by rw [h9]; exact hqb
        have ho1 : oth_ n σ (st_ σ 12 n (nI t1)) := oth_any _ _ (by omega)
        refine lv_aload_n hx hb dX1_freeCell_58 rfl (lv_at hl 2 rfl) ?_
        refine fs_g11 hX hI dX1_freeCell_59 ?_
        refine lv_iload_n hx hb dX1_freeCell_62 rfl (lv_at hl 0 rfl) ?_
        refine ob_zld hX hI 11 rfl (n * 8 + t) (by omega) (by decide) dX1_freeCell_63 ?_
        refine lv_if_eq (tgt := 84) hx hb dX1_freeCell_64 (by decide) (fun q3 => ?_) (fun q3 => ?_)
        · skip
          refine lv_aload_n hx hb dX1_freeCell_84 rfl (lv_at hl 2 rfl) ?_
          refine lv_iload_n hx hb dX1_freeCell_85 rfl (lv_at hl 0 rfl) ?_
          refine ob_callv hX hAA hI rfl (M_dropCell l D h d R (n * 8 + t) (by omega) _) (cwX1_dropCell hts rfl rfl ⟨by decide, by decide⟩) rfl hl.1 (rest := []) (by simp [Value.category]) rfl dX1_freeCell_86 (fun σ2 H locs hp hI => ?_)
          subst hp
          refine lv_iload_n hx hb dX1_freeCell_89 rfl (lv_at hl 0 rfl) ?_
          refine hret _ _ _ _ _ _ ⟨t, J, va_up C b none, ht, rfl, ?_, ?_, ?_, ?_, ?_, ?_, ?_⟩ hI dX1_freeCell_90
          · rw [st_ne _ _ (Or.inl (by decide)), st_at]
          · rw [st_at]
          · exact fsJ_cong hJ1 (by rw [st_ne _ _ (Or.inl (by decide)), st_ne _ _ (Or.inl (by decide))]) (fun j _ => by rw [st_ne _ _ (Or.inl (by decide)), st_ne _ _ (Or.inl (by decide))]) (fun j _ => by rw [st_ne _ _ (Or.inl (by decide)), st_ne _ _ (Or.inl (by decide))])
          · exact fsC_drop hC1 hb16 ht hqb1
          · intro b1 hb1
            by_cases e : b1 = b
            · subst e
              rw [show va_up C b1 none b1 = none from up_s _ _ _, vw_none, hcb]
              exact ⟨by rw [h11] at q3; rw [q3, vw_clean], Or.inr rfl⟩
            · rw [show va_up C b none b1 = C b1 from up_n _ _ e]
              exact ⟨rfl, Or.inl rfl⟩
          · intro k k3 k4 k5 k9 k11 k12
            rw [st_o _ _ _ k11, st_o _ _ _ k9]
            exact st_o _ _ _ k12
          · exact oth_tr ho1 (oth_tr (oth_cell _ (-1) (by omega) (Or.inl rfl)) (oth_cell _ 0 (by omega) (Or.inr (Or.inr rfl))))
        · skip
          refine lv_aload_n hx hb dX1_freeCell_67 rfl (lv_at hl 2 rfl) ?_
          refine lv_iload_n hx hb dX1_freeCell_68 rfl (lv_at hl 3 rfl) ?_
          refine lv_aload_n hx hb dX1_freeCell_69 rfl (lv_at hl 2 rfl) ?_
          refine fs_g9 hX hI dX1_freeCell_70 ?_
          refine lv_iload_n hx hb dX1_freeCell_73 rfl (lv_at hl 0 rfl) ?_
          refine ob_ld hX hI 9 rfl (n * 8 + t) (by omega) (by decide) dX1_freeCell_74 ?_
          refine n_top (y := nI (b)) hqb1 ?_
          refine lv_aload_n hx hb dX1_freeCell_75 rfl (lv_at hl 2 rfl) ?_
          refine fs_g10 hX hI dX1_freeCell_76 ?_
          refine lv_iload_n hx hb dX1_freeCell_79 rfl (lv_at hl 0 rfl) ?_
          refine ob_ld hX hI 10 rfl (n * 8 + t) (by omega) (by decide) dX1_freeCell_80 ?_
          refine ob_callv hX hAA hI rfl (M_writeJournal l D h d R n b hn hb16 _ _ J hJ1) (cwX1_writeJournal hts rfl rfl ⟨by decide, by decide⟩) rfl hl.1 (rest := []) (by simp [Value.category]) rfl dX1_freeCell_81 (fun τ1 H locs hp hI => ?_)
          obtain ⟨hJ2, hfr2, ho2⟩ := hp
          have ho3 := oth_wj hfr2 ho2
          have hC2 : fsC τ1 R n C := fsC_cong hC1 hR (by rw [hfr2 12 (by decide) (by decide) (by decide)]) (fun j _ => by rw [hfr2 9 (by decide) (by decide) (by decide)]) (fun j _ => by rw [hfr2 10 (by decide) (by decide) (by decide)]) (fun j _ => by rw [hfr2 11 (by decide) (by decide) (by decide)])
          have hqb2 : τ1 9 (n * 8 + t) = nI b := by rw [hfr2 9 (by decide) (by decide) (by decide)]; exact hqb1
          refine lv_aload_n hx hb dX1_freeCell_84 rfl (lv_at hl 2 rfl) ?_
          refine lv_iload_n hx hb dX1_freeCell_85 rfl (lv_at hl 0 rfl) ?_
          refine ob_callv hX hAA hI rfl (M_dropCell l D h d R (n * 8 + t) (by omega) _) (cwX1_dropCell hts rfl rfl ⟨by decide, by decide⟩) rfl hl.1 (rest := []) (by simp [Value.category]) rfl dX1_freeCell_86 (fun σ2 H locs hp hI => ?_)
          subst hp
          refine lv_iload_n hx hb dX1_freeCell_89 rfl (lv_at hl 0 rfl) ?_
          refine hret _ _ _ _ _ _ ⟨t, va_up J b (some (st_ σ 12 n (nI t1) 10 (n * 8 + t))), va_up C b none, ht, rfl, ?_, ?_, ?_, ?_, ?_, ?_, ?_⟩ hI dX1_freeCell_90
          · rw [st_ne _ _ (Or.inl (by decide)), st_at]
          · rw [st_at]
          · exact fsJ_cong hJ2 (by rw [st_ne _ _ (Or.inl (by decide)), st_ne _ _ (Or.inl (by decide))]) (fun j _ => by rw [st_ne _ _ (Or.inl (by decide)), st_ne _ _ (Or.inl (by decide))]) (fun j _ => by rw [st_ne _ _ (Or.inl (by decide)), st_ne _ _ (Or.inl (by decide))])
          · exact fsC_drop hC2 hb16 ht hqb2
          · intro b1 hb1
            by_cases e : b1 = b
            · subst e
              rw [show va_up C b1 none b1 = none from up_s _ _ _, vw_none, hcb]
              exact ⟨by rw [h11] at q3; rw [up_s, vw_dirty _ _ q3, h10], Or.inr rfl⟩
            · rw [show va_up C b none b1 = C b1 from up_n _ _ e]
              exact ⟨by rw [up_n _ _ e], Or.inl rfl⟩
          · intro k k3 k4 k5 k9 k11 k12
            rw [st_o _ _ _ k11, st_o _ _ _ k9]
            rw [hfr2 k k3 k4 k5]
            exact st_o _ _ _ k12
          · exact oth_tr ho1 (oth_tr ho3 (oth_tr (oth_cell _ (-1) (by omega) (Or.inl rfl)) (oth_cell _ 0 (by omega) (Or.inr (Or.inr rfl)))))
      refine lv_aload_n hx hb dX1_freeCell_25 rfl (lv_at hl 2 rfl) ?_
      refine fs_g12 hX hI dX1_freeCell_26 ?_
      refine lv_iload_n hx hb dX1_freeCell_29 rfl (lv_at hl 3 rfl) ?_
      refine lv_aload_n hx hb dX1_freeCell_30 rfl (lv_at hl 2 rfl) ?_
      refine fs_g12 hX hI dX1_freeCell_31 ?_
      refine lv_iload_n hx hb dX1_freeCell_34 rfl (lv_at hl 3 rfl) ?_
      refine ob_ld hX hI 12 rfl (n) (by omega) (by decide) dX1_freeCell_35 ?_
      refine n_top (y := nI (t)) h12 ?_
      refine lv_iconst (v := nI 1) hx hb dX1_freeCell_36 (by decide) ?_
      refine n_iadd hx hb dX1_freeCell_37 ?_
      refine lv_aload_n hx hb dX1_freeCell_38 rfl (lv_at hl 2 rfl) ?_
      refine fs_g0 hX hI dX1_freeCell_39 ?_
      refine n_icmp_lt (tgt := 49) hx hb dX1_freeCell_42 (by decide) (by omega) (by omega) (fun q4 => ?_) (fun q4 => ?_)
      · skip
        refine lv_aload_n hx hb dX1_freeCell_49 rfl (lv_at hl 2 rfl) ?_
        refine fs_g12 hX hI dX1_freeCell_50 ?_
        refine lv_iload_n hx hb dX1_freeCell_53 rfl (lv_at hl 3 rfl) ?_
        refine ob_ld hX hI 12 rfl (n) (by omega) (by decide) dX1_freeCell_54 ?_
        refine n_top (y := nI (t)) h12 ?_
        refine lv_iconst (v := nI 1) hx hb dX1_freeCell_55 (by decide) ?_
        refine n_iadd hx hb dX1_freeCell_56 ?_
        refine ob_st hX hI 12 rfl (n) (by omega) (by decide) dX1_freeCell_57 (fun H locs hI => ?_)
        exact tail (t + 1) H locs ls q4 hI hl
      · skip
        refine lv_iconst (v := 0) hx hb dX1_freeCell_45 (by decide) ?_
        refine lv_goto (tgt := 57) hx hb dX1_freeCell_46 (by decide) ?_
        refine ob_st hX hI 12 rfl (n) (by omega) (by decide) dX1_freeCell_57 (fun H locs hI => ?_)
        exact tail 0 H locs ls (by omega) hI hl
    · exact absurd (by decide) q2
  · skip
    refine lv_istore_n (lv' := [(2, .int (nI (n * 8 + i))), (0, .ref (h 0)), (1, .int (nI n))]) hx hb dX1_freeCell_6 rfl hl (by decide) rfl (fun ls hl => ?_)
    refine lv_iload_n hx hb dX1_freeCell_7 rfl (lv_at hl 0 rfl) ?_
    refine lv_if_lt (tgt := 13) hx hb dX1_freeCell_8 (by decide) (fun q2 => ?_) (fun q2 => ?_)
    · exact absurd q2 (nI_pos (by omega))
    · skip
      have h11 : σ 11 (n * 8 + i) = 0 := by
        rcases hC.2.1 i hi with ⟨-, z⟩ | ⟨b, hb16, z, -⟩
        · exact z
        · rw [hq] at z
          exact absurd z.symm (nI_m1 (by omega))
      refine lv_iload_n hx hb dX1_freeCell_11 rfl (lv_at hl 0 rfl) ?_
      exact hret _ _ _ _ _ _ ⟨i, J, C, hi, rfl, hq, h11, hJ, hC, fun b _ => ⟨rfl, Or.inl rfl⟩, fun _ _ _ _ _ _ _ => rfl, oth_rf n σ⟩ hI dX1_freeCell_12
set_option maxHeartbeats 4000000 in
/-- the block comes into the cache -/
theorem M_bringIn (l : Launch) (D : va_G) (h : Nat → Nat) (d : Nat → ClassId) (R n b : Nat) (h2R : 2 ≤ R) (hR : R ≤ 8) (hn : n < 3) (hb16 : b < 16) (σ : FS) (J : Nat → Option Int32) (C : Nat → Option (Int32 × Int32)) (hJ : fsJ σ n J) (hC : fsC σ R n C) : ob_Mi l yX1_bringIn cX1_bringIn 5 (some .int) rmX1_bringIn D 0 [.int (nI R)] fsKs h d σ [.int (nI n), .int (nI b)] (fun v σ1 => ∃ (i : Nat) (J1 : Nat → Option Int32) (C1 : Nat → Option (Int32 × Int32)), i < R ∧ v = nI (n * 8 + i) ∧ σ1 9 (n * 8 + i) = nI b ∧ fsJ σ1 n J1 ∧ fsC σ1 R n C1 ∧ (∀ z, z < 16 → vw_ (J1 z) (C1 z) = vw_ (J z) (C z) ∧ (z ≠ b → C1 z = C z ∨ C1 z = none)) ∧ ((C1 b = C b ∧ (C b).isSome = true) ∨ (C b = none ∧ C1 b = some ((vw_ (J b) (C b)).getD (σ 2 b), 0))) ∧ (∀ k, k ≠ 3 → k ≠ 4 → k ≠ 5 → k ≠ 9 → k ≠ 10 → k ≠ 11 → k ≠ 12 → σ1 k = σ k) ∧ oth_ n σ σ1) := by
  refine ob_ofWi (C := RX1) (by decide) rfl (Nat.le_of_ble_eq_true rfl) ?_
  intro p e s m args below meth c A Q ls hX hAA hI hret hl
  have hx := hX.1.1
  have hb := hX.1.2.1
  have hts := hX.1.2.2.2.2
  have hl : lv_has ls 5 [(0, .ref (h 0)), (1, .int (nI n)), (2, .int (nI b))] := hl
  refine lv_aload_n hx hb dX1_bringIn_0 rfl (lv_at hl 0 rfl) ?_
  refine lv_iload_n hx hb dX1_bringIn_1 rfl (lv_at hl 1 rfl) ?_
  refine lv_iload_n hx hb dX1_bringIn_2 rfl (lv_at hl 2 rfl) ?_
  refine ob_calli hX hAA hI rfl (M_cached l D h d R n hR hn σ (nI b)) (cwX1_cached hts rfl rfl ⟨by decide, by decide⟩) rfl hl.1 (rest := []) (by simp [Value.category]) rfl dX1_bringIn_3 (fun v2 σ1 H locs hp hI => ?_)
  obtain ⟨hs, hp⟩ := hp
  rw [hs] at hI
  rcases hp with ⟨rfl, hm2⟩ | ⟨i, hi, rfl, hq⟩
  · have hcn := fsC_miss hC hb16 hm2
    refine lv_istore_n (lv' := [(3, .int ((-1))), (0, .ref (h 0)), (1, .int (nI n)), (2, .int (nI b))]) hx hb dX1_bringIn_6 rfl hl (by decide) rfl (fun ls hl => ?_)
    refine lv_iload_n hx hb dX1_bringIn_7 rfl (lv_at hl 0 rfl) ?_
    refine lv_if_lt (tgt := 13) hx hb dX1_bringIn_8 (by decide) (fun q2 => ?_) (fun q2 => ?_)
    · skip
      refine lv_aload_n hx hb dX1_bringIn_13 rfl (lv_at hl 1 rfl) ?_
      refine lv_iload_n hx hb dX1_bringIn_14 rfl (lv_at hl 2 rfl) ?_
      refine ob_calli hX hAA hI rfl (M_freeCell l D h d R n h2R hR hn σ J C hJ hC) (cwX1_freeCell hts rfl rfl ⟨by decide, by decide⟩) rfl hl.1 (rest := []) (by simp [Value.category]) rfl dX1_bringIn_15 (fun v3 τ H locs hp hI => ?_)
      obtain ⟨i, J1, C1, hi, rfl, h9, h11, hJ1, hC1, hvw, hfr, ho⟩ := hp
      have hc1 : C1 b = none := by
        rcases (hvw b hb16).2 with z | z
        · rw [z, hcn]
        · exact z
      have hjb : J1 b = vw_ (J b) (C b) := by rw [← (hvw b hb16).1, hc1]; rfl
      refine lv_istore_n (lv' := [(3, .int (nI (n * 8 + i))), (0, .ref (h 0)), (1, .int (nI n)), (2, .int (nI b))]) hx hb dX1_bringIn_18 rfl hl (by decide) rfl (fun ls hl => ?_)
      refine lv_aload_n hx hb dX1_bringIn_19 rfl (lv_at hl 1 rfl) ?_
      refine lv_iload_n hx hb dX1_bringIn_20 rfl (lv_at hl 2 rfl) ?_
      refine lv_iload_n hx hb dX1_bringIn_21 rfl (lv_at hl 3 rfl) ?_
      refine ob_calli hX hAA hI rfl (M_journaled l D h d R n hn (jn_ J1) (jn_le J1) τ hJ1.1 (nI b)) (cwX1_journaled hts rfl rfl ⟨by decide, by decide⟩) rfl hl.1 (rest := []) (by simp [Value.category]) rfl dX1_bringIn_22 (fun v4 σ1 H locs hp hI => ?_)
      obtain ⟨hs, hp⟩ := hp
      rw [hs] at hI
      have fin : ∀ (x : Int32), x = (vw_ (J b) (C b)).getD (σ 2 b) → ∃ (i1 : Nat) (J2 : Nat → Option Int32) (C2 : Nat → Option (Int32 × Int32)), i1 < R ∧ nI (n * 8 + i) = nI (n * 8 + i1) ∧ (st_ (st_ τ 9 (n * 8 + i) (nI b)) 10 (n * 8 + i) x) 9 (n * 8 + i1) = nI b ∧ fsJ (st_ (st_ τ 9 (n * 8 + i) (nI b)) 10 (n * 8 + i) x) n J2 ∧ fsC (st_ (st_ τ 9 (n * 8 + i) (nI b)) 10 (n * 8 + i) x) R n C2 ∧ (∀ z, z < 16 → vw_ (J2 z) (C2 z) = vw_ (J z) (C z) ∧ (z ≠ b → C2 z = C z ∨ C2 z = none)) ∧ ((C2 b = C b ∧ (C b).isSome = true) ∨ (C b = none ∧ C2 b = some ((vw_ (J b) (C b)).getD (σ 2 b), 0))) ∧ (∀ k, k ≠ 3 → k ≠ 4 → k ≠ 5 → k ≠ 9 → k ≠ 10 → k ≠ 11 → k ≠ 12 → (st_ (st_ τ 9 (n * 8 + i) (nI b)) 10 (n * 8 + i) x) k = σ k) ∧ oth_ n σ (st_ (st_ τ 9 (n * 8 + i) (nI b)) 10 (n * 8 + i) x) := by
        intro x hx1
        refine ⟨i, J1, va_up C1 b (some (x, 0)), hi, rfl, ?_, ?_, fsC_put hC1 hb16 hi h9 h11 hc1, ?_, Or.inr ⟨hcn, by rw [up_s, hx1]⟩, ?_, ?_⟩
        · rw [st_ne _ _ (Or.inl (by decide)), st_at]
        · exact fsJ_cong hJ1 (by rw [st_ne _ _ (Or.inl (by decide)), st_ne _ _ (Or.inl (by decide))]) (fun j _ => by rw [st_ne _ _ (Or.inl (by decide)), st_ne _ _ (Or.inl (by decide))]) (fun j _ => by rw [st_ne _ _ (Or.inl (by decide)), st_ne _ _ (Or.inl (by decide))])
        · intro z hz
          by_cases e : z = b
          · subst e
            rw [up_s, vw_clean, hjb]
            exact ⟨rfl, fun w => absurd rfl w⟩
          · rw [up_n _ _ e]
            exact ⟨(hvw z hz).1, fun _ => (hvw z hz).2⟩
        · intro k k3 k4 k5 k9 k10 k11 k12
          rw [st_o _ _ _ k10, st_o _ _ _ k9]
          exact hfr k k3 k4 k5 k9 k11 k12
        · exact oth_tr ho (oth_tr (oth_cell _ (nI b) (by omega) (Or.inl rfl)) (oth_cell _ x (by omega) (Or.inr (Or.inl rfl))))
      rcases hp with ⟨rfl, hm⟩ | ⟨z, hz, rfl, hq⟩
      · have hnone := fsJ_miss hJ1 hb16 hm
        refine lv_istore (lv' := [(4, .int ((-1))), (3, .int (nI (n * 8 + i))), (0, .ref (h 0)), (1, .int (nI n)), (2, .int (nI b))]) hx hb dX1_bringIn_25 hl (by decide) rfl (fun ls hl => ?_)
        refine lv_aload_n hx hb dX1_bringIn_27 rfl (lv_at hl 2 rfl) ?_
        refine fs_g9 hX hI dX1_bringIn_28 ?_
        refine lv_iload_n hx hb dX1_bringIn_31 rfl (lv_at hl 1 rfl) ?_
        refine lv_iload_n hx hb dX1_bringIn_32 rfl (lv_at hl 4 rfl) ?_
        refine ob_st hX hI 9 rfl (n * 8 + i) (by omega) (by decide) dX1_bringIn_33 (fun H locs hI => ?_)
        refine lv_aload_n hx hb dX1_bringIn_34 rfl (lv_at hl 2 rfl) ?_
        refine fs_g10 hX hI dX1_bringIn_35 ?_
        refine lv_iload_n hx hb dX1_bringIn_38 rfl (lv_at hl 1 rfl) ?_
        refine lv_iload hx hb dX1_bringIn_39 (lv_at hl 0 rfl) ?_
        refine lv_if_lt (tgt := 54) hx hb dX1_bringIn_41 (by decide) (fun q3 => ?_) (fun q3 => ?_)
        · skip
          refine lv_aload_n hx hb dX1_bringIn_54 rfl (lv_at hl 2 rfl) ?_
          refine fs_g2 hX hI dX1_bringIn_55 ?_
          refine lv_iload_n hx hb dX1_bringIn_58 rfl (lv_at hl 4 rfl) ?_
          refine ob_ld hX hI 2 rfl (b) (by omega) (by decide) dX1_bringIn_59 ?_
          refine ob_st hX hI 10 rfl (n * 8 + i) (by omega) (by decide) dX1_bringIn_60 (fun H locs hI => ?_)
          refine lv_iload_n hx hb dX1_bringIn_61 rfl (lv_at hl 1 rfl) ?_
          exact hret _ _ _ _ _ _ (fin _ (by rw [← hjb, hnone, st_ne _ _ (Or.inl (by decide)), hfr 2 (by decide) (by decide) (by decide) (by decide) (by decide) (by decide)]; rfl)) hI dX1_bringIn_62
        · exact absurd (by decide) q3
      · have hhit := fsJ_hit hJ1 hb16 hz hq
        have hj16 := jn_le J1
        refine lv_istore (lv' := [(4, .int (nI (n * 16 + z))), (3, .int (nI (n * 8 + i))), (0, .ref (h 0)), (1, .int (nI n)), (2, .int (nI b))]) hx hb dX1_bringIn_25 hl (by decide) rfl (fun ls hl => ?_)
        refine lv_aload_n hx hb dX1_bringIn_27 rfl (lv_at hl 2 rfl) ?_
        refine fs_g9 hX hI dX1_bringIn_28 ?_
        refine lv_iload_n hx hb dX1_bringIn_31 rfl (lv_at hl 1 rfl) ?_
        refine lv_iload_n hx hb dX1_bringIn_32 rfl (lv_at hl 4 rfl) ?_
        refine ob_st hX hI 9 rfl (n * 8 + i) (by omega) (by decide) dX1_bringIn_33 (fun H locs hI => ?_)
        refine lv_aload_n hx hb dX1_bringIn_34 rfl (lv_at hl 2 rfl) ?_
        refine fs_g10 hX hI dX1_bringIn_35 ?_
        refine lv_iload_n hx hb dX1_bringIn_38 rfl (lv_at hl 1 rfl) ?_
        refine lv_iload hx hb dX1_bringIn_39 (lv_at hl 0 rfl) ?_
        refine lv_if_lt (tgt := 54) hx hb dX1_bringIn_41 (by decide) (fun q3 => ?_) (fun q3 => ?_)
        · exact absurd q3 (nI_pos (by omega))
        · skip
          refine lv_aload_n hx hb dX1_bringIn_44 rfl (lv_at hl 2 rfl) ?_
          refine fs_g5 hX hI dX1_bringIn_45 ?_
          refine lv_iload hx hb dX1_bringIn_48 (lv_at hl 0 rfl) ?_
          refine ob_ld hX hI 5 rfl (n * 16 + z) (by omega) (by decide) dX1_bringIn_50 ?_
          refine lv_goto (tgt := 60) hx hb dX1_bringIn_51 (by decide) ?_
          refine ob_st hX hI 10 rfl (n * 8 + i) (by omega) (by decide) dX1_bringIn_60 (fun H locs hI => ?_)
          refine lv_iload_n hx hb dX1_bringIn_61 rfl (lv_at hl 1 rfl) ?_
          exact hret _ _ _ _ _ _ (fin _ (by rw [← hjb, hhit, st_ne _ _ (Or.inl (by decide))]; rfl)) hI dX1_bringIn_62
    · exact absurd (by decide) q2
  · skip
    refine lv_istore_n (lv' := [(3, .int (nI (n * 8 + i))), (0, .ref (h 0)), (1, .int (nI n)), (2, .int (nI b))]) hx hb dX1_bringIn_6 rfl hl (by decide) rfl (fun ls hl => ?_)
    refine lv_iload_n hx hb dX1_bringIn_7 rfl (lv_at hl 0 rfl) ?_
    refine lv_if_lt (tgt := 13) hx hb dX1_bringIn_8 (by decide) (fun q2 => ?_) (fun q2 => ?_)
    · exact absurd q2 (nI_pos (by omega))
    · skip
      refine lv_iload_n hx hb dX1_bringIn_11 rfl (lv_at hl 0 rfl) ?_
      exact hret _ _ _ _ _ _ ⟨i, J, C, hi, rfl, hq, hJ, hC, fun z _ => ⟨rfl, fun _ => Or.inl rfl⟩, Or.inl ⟨rfl, by rw [fsC_hit hC hb16 hi hq]; rfl⟩, fun _ _ _ _ _ _ _ _ => rfl, oth_rf n σ⟩ hI dX1_bringIn_12
end
section
/-! CONTRACTS of SharedDiskFs: stepBack, take, readBlock, writeBlock -/
set_option maxRecDepth 100000
set_option maxHeartbeats 4000000 in
/-- a holder steps back -/
theorem M_stepBack (l : Launch) (D : va_G) (h : Nat → Nat) (d : Nat → ClassId) (R n b : Nat) (hn : n < 3) (hb16 : b < 16) (md : Int32) (σ : FS) (U : Nat → Nat → Option Int32) (K : Nat → Nat → Bool) (hV : fsInv σ R U K) : ob_Mv l yX1_stepBack cX1_stepBack 5 rmX1_stepBack D 0 [.int (nI R)] fsKs h d σ [.int (nI n), .int (nI b), .int md] (fun σ1 => ∃ (U1 : Nat → Nat → Option Int32) (K1 : Nat → Nat → Bool), fsInv σ1 R U1 K1 ∧ U1 n b = none ∧ (md = 2 → K1 n b = false) ∧ ((U n b = none ∧ U1 = U ∧ ∀ c, c < 16 → σ1 2 c = σ 2 c) ∨ ((U n b).isSome = true ∧ U1 = va_up U n (fun _ => none) ∧ ∀ c, c < 16 → σ1 2 c = (U n c).getD (σ 2 c))) ∧ (∀ a, a ≠ n → K1 a = K a) ∧ σ1 1 = σ 1) := by
  refine ob_ofWv (C := RX1) (by decide) rfl (Nat.le_of_ble_eq_true rfl) ?_
  intro p e s m args below meth c A Q ls hX hAA hI hret hl
  have hx := hX.1.1
  have hb := hX.1.2.1
  have hts := hX.1.2.2.2.2
  have hl : lv_has ls 5 [(0, .ref (h 0)), (1, .int (nI n)), (2, .int (nI b)), (3, .int md)] := hl
  obtain ⟨⟨J, C, hA, hs⟩, h7, hx2, hlk⟩ := hV
  have hR := hA.2.1
  have hV : fsInv σ R U K := ⟨⟨J, C, hA, hs⟩, h7, hx2, hlk⟩
  have tail : ∀ (τ : FS) (U1 : Nat → Nat → Option Int32) (H : Heap) (locs : List Loc) (ls : Array Slot), fsInv τ R U1 K → U1 n b = none → ((U n b = none ∧ U1 = U ∧ ∀ c, c < 16 → τ 2 c = σ 2 c) ∨ ((U n b).isSome = true ∧ U1 = va_up U n (fun _ => none) ∧ ∀ c, c < 16 → τ 2 c = (U n c).getD (σ 2 c))) → τ 1 = σ 1 → ob_I D 0 [.int (nI R)] fsKs h d τ A s.heap H locs → lv_has ls 5 [(0, .ref (h 0)), (1, .int (nI n)), (2, .int (nI b)), (3, .int md)] → W p l e rmX1_stepBack s m args below meth c H locs 0 0 Q (F0 m 19 ls []) := by
    intro τ U1 H locs ls hV1 hu1 hd1 h1 hI hl
    refine lv_iload_n hx hb dX1_stepBack_19 rfl (lv_at hl 3 rfl) ?_
    refine lv_iconst (v := 2) hx hb dX1_stepBack_20 (by decide) ?_
    refine lv_icmp_ne (tgt := 45) hx hb dX1_stepBack_21 (by decide) (fun q => ?_) (fun q => ?_)
    · skip
      refine lv_aload_n hx hb dX1_stepBack_45 rfl (lv_at hl 0 rfl) ?_
      refine fs_g8 hX hI dX1_stepBack_46 ?_
      refine lv_iload_n hx hb dX1_stepBack_49 rfl (lv_at hl 1 rfl) ?_
      refine lv_bipush (v := nI 16) hx hb dX1_stepBack_50 (by decide) ?_
      refine n_imul hx hb dX1_stepBack_52 ?_
      refine lv_iload_n hx hb dX1_stepBack_53 rfl (lv_at hl 2 rfl) ?_
      refine n_iadd hx hb dX1_stepBack_54 ?_
      refine lv_iconst (v := 1) hx hb dX1_stepBack_55 (by decide) ?_
      refine ob_st hX hI 8 rfl (n * 16 + b) (by omega) (by decide) dX1_stepBack_56 (fun H locs hI => ?_)
      refine hret _ _ _ _ _ ⟨U1, K, fsInv_lock hV1 1 hb16 (Or.inl (by decide)), hu1, fun z => absurd z q, ?_, fun _ _ => rfl, ?_⟩ hI dX1_stepBack_57
      · rw [st_o _ _ _ (show 2 ≠ 8 by decide)]; exact hd1
      · rw [st_o _ _ _ (show 1 ≠ 8 by decide)]; exact h1
    · obtain ⟨⟨J1, C1, hA1, hs1⟩, h71, hx21, hlk1⟩ := hV1
      have hV1 : fsInv τ R U1 K := ⟨⟨J1, C1, hA1, hs1⟩, h71, hx21, hlk1⟩
      refine lv_aload_n hx hb dX1_stepBack_24 rfl (lv_at hl 0 rfl) ?_
      refine lv_iload_n hx hb dX1_stepBack_25 rfl (lv_at hl 1 rfl) ?_
      refine lv_iload_n hx hb dX1_stepBack_26 rfl (lv_at hl 2 rfl) ?_
      refine ob_callv hX hAA hI rfl (M_forget l D h d R n b hR hn hb16 τ (C1 n) (hA1.2.2 n hn).2) (cwX1_forget hts rfl rfl ⟨by decide, by decide⟩) rfl hl.1 (rest := []) (by simp [Value.category]) rfl dX1_stepBack_27 (fun τ1 H locs hp hI => ?_)
      obtain ⟨hC2, hfr, ho⟩ := hp
      have hV2 := fsInv_forget hV1 hn hA1 hs1 hb16 hu1 hC2 hfr ho
      refine lv_aload_n hx hb dX1_stepBack_30 rfl (lv_at hl 0 rfl) ?_
      refine fs_g8 hX hI dX1_stepBack_31 ?_
      refine lv_iload_n hx hb dX1_stepBack_34 rfl (lv_at hl 1 rfl) ?_
      refine lv_bipush (v := nI 16) hx hb dX1_stepBack_35 (by decide) ?_
      refine n_imul hx hb dX1_stepBack_37 ?_
      refine lv_iload_n hx hb dX1_stepBack_38 rfl (lv_at hl 2 rfl) ?_
      refine n_iadd hx hb dX1_stepBack_39 ?_
      refine lv_iconst (v := 0) hx hb dX1_stepBack_40 (by decide) ?_
      refine ob_st hX hI 8 rfl (n * 16 + b) (by omega) (by decide) dX1_stepBack_41 (fun H locs hI => ?_)
      refine lv_goto (tgt := 57) hx hb dX1_stepBack_42 (by decide) ?_
      refine hret _ _ _ _ _ ⟨U1, va_up K n (va_up (K n) b false), fsInv_lock hV2 0 hb16 (Or.inr ⟨by rw [up_s, up_s], hu1⟩), hu1, fun _ => by rw [up_s, up_s], ?_, fun a ha => up_n _ _ ha, ?_⟩ hI dX1_stepBack_57
      · rw [st_o _ _ _ (show 2 ≠ 8 by decide), hfr 2 (by decide) (by decide)]; exact hd1
      · rw [st_o _ _ _ (show 1 ≠ 8 by decide), hfr 1 (by decide) (by decide)]; exact h1
  refine lv_aload_n hx hb dX1_stepBack_0 rfl (lv_at hl 0 rfl) ?_
  refine lv_iload_n hx hb dX1_stepBack_1 rfl (lv_at hl 1 rfl) ?_
  refine lv_iload_n hx hb dX1_stepBack_2 rfl (lv_at hl 2 rfl) ?_
  refine ob_calli hX hAA hI rfl (M_isUnsafe l D h d R n b hR hn hb16 σ (J n) (C n) (hA.2.2 n hn).1 (hA.2.2 n hn).2) (cwX1_isUnsafe hts rfl rfl ⟨by decide, by decide⟩) rfl hl.1 (rest := []) (by simp [Value.category]) rfl dX1_stepBack_3 (fun v1 σ1 H locs hp hI => ?_)
  obtain ⟨hs0, hp⟩ := hp
  rw [hs0] at hI
  rw [← (hs n hn b hb16).1] at hp
  rcases hp with ⟨rfl, hu⟩ | ⟨rfl, hu⟩
  · skip
    refine lv_istore (lv' := [(4, .int 1), (0, .ref (h 0)), (1, .int (nI n)), (2, .int (nI b)), (3, .int md)]) hx hb dX1_stepBack_6 hl (by decide) rfl (fun ls hl => ?_)
    refine lv_iload hx hb dX1_stepBack_8 (lv_at hl 0 rfl) ?_
    refine lv_if_eq (tgt := 19) hx hb dX1_stepBack_10 (by decide) (fun q => ?_) (fun q => ?_)
    · exact absurd q (by decide)
    · skip
      refine lv_aload_n hx hb dX1_stepBack_13 rfl (lv_at hl 1 rfl) ?_
      refine lv_iload_n hx hb dX1_stepBack_14 rfl (lv_at hl 2 rfl) ?_
      refine ob_calli hX hAA hI rfl (M_makeSafe l D h d R n hR hn σ (J n) (C n) (hA.2.2 n hn).1 (hA.2.2 n hn).2) (cwX1_makeSafe hts rfl rfl ⟨by decide, by decide⟩) rfl hl.1 (rest := []) (by simp [Value.category]) rfl dX1_stepBack_15 (fun v2 τ H locs hp hI => ?_)
      obtain ⟨-, hJ1, hC1, hh, h71, h11, h81, ho⟩ := hp
      have hh1 : ∀ c, c < 16 → τ 2 c = (U n c).getD (σ 2 c) := fun c hc => by rw [(hs n hn c hc).1]; exact hh c hc
      refine lv_pop hx hb dX1_stepBack_18 rfl ?_
      exact tail τ _ H locs ls (fsInv_safe hV hn hs hJ1 hC1 hh1 h71 h81 ho) (by rw [up_s]) (Or.inr ⟨hu, rfl, hh1⟩) h11 hI (lv_sub hl [1, 2, 3, 4] rfl)
  · skip
    refine lv_istore (lv' := [(4, .int 0), (0, .ref (h 0)), (1, .int (nI n)), (2, .int (nI b)), (3, .int md)]) hx hb dX1_stepBack_6 hl (by decide) rfl (fun ls hl => ?_)
    refine lv_iload hx hb dX1_stepBack_8 (lv_at hl 0 rfl) ?_
    refine lv_if_eq (tgt := 19) hx hb dX1_stepBack_10 (by decide) (fun q => ?_) (fun q => ?_)
    · skip
      exact tail σ U H locs ls hV hu (Or.inl ⟨hu, rfl, fun _ _ => rfl⟩) rfl hI (lv_sub hl [1, 2, 3, 4] rfl)
    · exact absurd rfl q
theorem Stl_step {σ τ υ : FS} {R n b i : Nat} {U U1 U2 : Nat → Nat → Option Int32} {K : Nat → Nat → Bool} (hV : fsInv σ R U K) (hi : i < 3) (hne : i ≠ n) (hb : b < 16) (hS : Stl n b U (σ 2) U1 (τ 2)) (hd : (U1 i b = none ∧ U2 = U1 ∧ ∀ c, c < 16 → υ 2 c = τ 2 c) ∨ ((U1 i b).isSome = true ∧ U2 = va_up U1 i (fun _ => none) ∧ ∀ c, c < 16 → υ 2 c = (U1 i c).getD (τ 2 c))) : Stl n b U (σ 2) U2 (υ 2) := by
  rcases hd with ⟨-, e, hh⟩ | ⟨hu, e, hh⟩
  · subst e
    rcases hS with ⟨e, h1⟩ | ⟨m, hm, hmn, hmu, e, h1⟩
    · exact Or.inl ⟨e, fun c hc => (hh c hc).trans (h1 c hc)⟩
    · exact Or.inr ⟨m, hm, hmn, hmu, e, fun c hc => (hh c hc).trans (h1 c hc)⟩
  · rcases hS with ⟨e1, h1⟩ | ⟨m, hm, hmn, hmu, e1, h1⟩
    · subst e1
      exact Or.inr ⟨i, hi, hne, hu, e, fun c hc => by rw [hh c hc, h1 c hc]⟩
    · exfalso
      rw [e1] at hu
      by_cases z : i = m
      · rw [z, up_s] at hu
        cases hu
      · rw [up_n _ _ z, (hV.2.2.1 m i hm hi (fun y => z y.symm) b hb hmu).1] at hu
        cases hu
set_option maxHeartbeats 4000000 in
/-- takes a lock -/
theorem M_take (l : Launch) (D : va_G) (h : Nat → Nat) (d : Nat → ClassId) (R n b : Nat) (hn : n < 3) (hb16 : b < 16) (md : Int32) (hmd : md = 1 ∨ md = 2) (σ : FS) (U : Nat → Nat → Option Int32) (K : Nat → Nat → Bool) (hV : fsInv σ R U K) : ob_Mv l yX1_take cX1_take 5 rmX1_take D 0 [.int (nI R)] fsKs h d σ [.int (nI n), .int (nI b), .int md] (fun σ1 => ∃ (U1 : Nat → Nat → Option Int32) (K1 : Nat → Nat → Bool), fsInv σ1 R U1 K1 ∧ Stl n b U (σ 2) U1 (σ1 2) ∧ (∀ a, a < 3 → a ≠ n → U1 a b = none ∧ (md = 2 → K1 a b = false)) ∧ σ1 8 (n * 16 + b) ≠ 0 ∧ σ1 1 = σ 1) := by
  refine ob_ofWv (C := RX1) (by decide) rfl (Nat.le_of_ble_eq_true rfl) ?_
  intro p e s m args below meth c A Q ls hX hAA hI hret hl
  have hx := hX.1.1
  have hb := hX.1.2.1
  have hts := hX.1.2.2.2.2
  have hl : lv_has ls 5 [(0, .ref (h 0)), (1, .int (nI n)), (2, .int (nI b)), (3, .int md)] := hl
  refine lv_iconst (v := nI 0) hx hb dX1_take_0 (by decide) ?_
  refine lv_istore (lv' := [(4, .int (nI 0)), (0, .ref (h 0)), (1, .int (nI n)), (2, .int (nI b)), (3, .int md)]) hx hb dX1_take_1 hl (by decide) rfl (fun ls hl => ?_)
  have loop : ∀ (k i : Nat) (τ : FS) (U1 : Nat → Nat → Option Int32) (K1 : Nat → Nat → Bool) (H : Heap) (locs : List Loc) (ls : Array Slot), 3 < i + k → i ≤ 3 → fsInv τ R U1 K1 → Stl n b U (σ 2) U1 (τ 2) → (∀ a, a < i → a ≠ n → U1 a b = none ∧ (md = 2 → K1 a b = false)) → τ 1 = σ 1 → ob_I D 0 [.int (nI R)] fsKs h d τ A s.heap H locs → lv_has ls 5 [(4, .int (nI i)), (0, .ref (h 0)), (1, .int (nI n)), (2, .int (nI b)), (3, .int md)] → W p l e rmX1_take s m args below meth c H locs 0 0 Q (F0 m 3 ls []) := by
    intro k
    induction k with
    | zero => intro i τ U1 K1 H locs ls h1 h2; exact absurd h1 (by omega)
    | succ k ih =>
      intro i τ U1 K1 H locs ls hk hi hV1 hS ha h1 hI hl
      refine lv_iload hx hb dX1_take_3 (lv_at hl 0 rfl) ?_
      refine lv_iconst (v := nI 3) hx hb dX1_take_5 (by decide) ?_
      refine n_icmp_ge (tgt := 44) hx hb dX1_take_6 (by decide) (by omega) (by omega) (fun q => ?_) (fun q => ?_)
      · skip
        refine lv_aload_n hx hb dX1_take_44 rfl (lv_at hl 1 rfl) ?_
        refine fs_g8 hX hI dX1_take_45 ?_
        refine lv_iload_n hx hb dX1_take_48 rfl (lv_at hl 2 rfl) ?_
        refine lv_bipush (v := nI 16) hx hb dX1_take_49 (by decide) ?_
        refine n_imul hx hb dX1_take_51 ?_
        refine lv_iload_n hx hb dX1_take_52 rfl (lv_at hl 3 rfl) ?_
        refine n_iadd hx hb dX1_take_53 ?_
        refine ob_ld hX hI 8 rfl (n * 16 + b) (by omega) (by decide) dX1_take_54 ?_
        refine lv_iload_n hx hb dX1_take_55 rfl (lv_at hl 4 rfl) ?_
        refine lv_icmp_ge (tgt := 71) hx hb dX1_take_56 (by decide) (fun q2 => ?_) (fun q2 => ?_)
        · skip
          refine hret _ _ _ _ _ ⟨U1, K1, hV1, hS, fun a ha3 => ha a (by omega), ?_, h1⟩ hI dX1_take_71
          intro z
          rw [z] at q2
          rcases hmd with rfl | rfl
          · exact absurd q2 (by decide)
          · exact absurd q2 (by decide)
        · skip
          refine lv_aload_n hx hb dX1_take_59 rfl (lv_at hl 1 rfl) ?_
          refine fs_g8 hX hI dX1_take_60 ?_
          refine lv_iload_n hx hb dX1_take_63 rfl (lv_at hl 2 rfl) ?_
          refine lv_bipush (v := nI 16) hx hb dX1_take_64 (by decide) ?_
          refine n_imul hx hb dX1_take_66 ?_
          refine lv_iload_n hx hb dX1_take_67 rfl (lv_at hl 3 rfl) ?_
          refine n_iadd hx hb dX1_take_68 ?_
          refine lv_iload_n hx hb dX1_take_69 rfl (lv_at hl 4 rfl) ?_
          refine ob_st hX hI 8 rfl (n * 16 + b) (by omega) (by decide) dX1_take_70 (fun H locs hI => ?_)
          refine hret _ _ _ _ _ ⟨U1, K1, fsInv_lock hV1 md hb16 (Or.inl ?_), ?_, fun a ha3 => ha a (by omega), ?_, ?_⟩ hI dX1_take_71
          · rcases hmd with rfl | rfl <;> decide
          · rw [st_o _ _ _ (show 2 ≠ 8 by decide)]; exact hS
          · rw [st_at]; rcases hmd with rfl | rfl <;> decide
          · rw [st_o _ _ _ (show 1 ≠ 8 by decide)]; exact h1
      · skip
        refine lv_iload hx hb dX1_take_9 (lv_at hl 0 rfl) ?_
        refine lv_iload_n hx hb dX1_take_11 rfl (lv_at hl 2 rfl) ?_
        refine n_icmp_eq (tgt := 38) hx hb dX1_take_12 (by decide) (by omega) (by omega) (fun q2 => ?_) (fun q2 => ?_)
        · skip
          refine n_iinc (k := 0) (lv' := [(4, .int (nI (i + 1))), (0, .ref (h 0)), (1, .int (nI n)), (2, .int (nI b)), (3, .int md)]) hx hb dX1_take_38 hl rfl (by decide) rfl (fun ls hl => ?_)
          refine lv_goto (tgt := 3) hx hb dX1_take_41 (by decide) ?_
          exact ih (i + 1) τ U1 K1 H locs ls (by omega) (by omega) hV1 hS (fun a ha2 hne => ha a (by omega) hne) h1 hI hl
        · skip
          refine lv_aload_n hx hb dX1_take_15 rfl (lv_at hl 1 rfl) ?_
          refine fs_g8 hX hI dX1_take_16 ?_
          refine lv_iload hx hb dX1_take_19 (lv_at hl 0 rfl) ?_
          refine lv_bipush (v := nI 16) hx hb dX1_take_21 (by decide) ?_
          refine n_imul hx hb dX1_take_23 ?_
          refine lv_iload_n hx hb dX1_take_24 rfl (lv_at hl 3 rfl) ?_
          refine n_iadd hx hb dX1_take_25 ?_
          refine ob_ld hX hI 8 rfl (i * 16 + b) (by omega) (by decide) dX1_take_26 ?_
          refine lv_if_eq (tgt := 38) hx hb dX1_take_27 (by decide) (fun q3 => ?_) (fun q3 => ?_)
          · skip
            refine n_iinc (k := 0) (lv' := [(4, .int (nI (i + 1))), (0, .ref (h 0)), (1, .int (nI n)), (2, .int (nI b)), (3, .int md)]) hx hb dX1_take_38 hl rfl (by decide) rfl (fun ls hl => ?_)
            refine lv_goto (tgt := 3) hx hb dX1_take_41 (by decide) ?_
            have hz : U1 i b = none ∧ K1 i b = false := by
              cases hk1 : K1 i b with
              | true => exact absurd q3 (hV1.2.2.2 i (by omega) b hb16 (Or.inl hk1))
              | false =>
                cases hu1 : U1 i b with
                | none => exact ⟨rfl, rfl⟩
                | some v => exact absurd q3 (hV1.2.2.2 i (by omega) b hb16 (Or.inr (by rw [hu1]; rfl)))
            refine ih (i + 1) τ U1 K1 H locs ls (by omega) (by omega) hV1 hS (fun a ha2 hne => ?_) h1 hI hl
            by_cases e : a = i
            · rw [e]
              exact ⟨hz.1, fun _ => hz.2⟩
            · exact ha a (by omega) hne
          · skip
            refine lv_aload_n hx hb dX1_take_30 rfl (lv_at hl 1 rfl) ?_
            refine lv_iload hx hb dX1_take_31 (lv_at hl 0 rfl) ?_
            refine lv_iload_n hx hb dX1_take_33 rfl (lv_at hl 3 rfl) ?_
            refine lv_iload_n hx hb dX1_take_34 rfl (lv_at hl 4 rfl) ?_
            refine ob_callv hX hAA hI rfl (M_stepBack l D h d R i b (by omega) hb16 md τ U1 K1 hV1) (cwX1_stepBack hts rfl rfl ⟨by decide, by decide⟩) rfl hl.1 (rest := []) (by simp [Value.category]) rfl dX1_take_35 (fun υ H locs hp hI => ?_)
            obtain ⟨U2, K2, hV2, hu2, hk2, hd2, hK2, h12⟩ := hp
            refine n_iinc (k := 0) (lv' := [(4, .int (nI (i + 1))), (0, .ref (h 0)), (1, .int (nI n)), (2, .int (nI b)), (3, .int md)]) hx hb dX1_take_38 hl rfl (by decide) rfl (fun ls hl => ?_)
            refine lv_goto (tgt := 3) hx hb dX1_take_41 (by decide) ?_
            refine ih (i + 1) υ U2 K2 H locs ls (by omega) (by omega) hV2 (Stl_step hV (by omega) q2 hb16 hS hd2) (fun a ha2 hne => ?_) (h12.trans h1) hI hl
            by_cases e : a = i
            · rw [e]
              exact ⟨hu2, hk2⟩
            · obtain ⟨z1, z2⟩ := ha a (by omega) hne
              refine ⟨?_, fun z => by rw [hK2 a e]; exact z2 z⟩
              rcases hd2 with ⟨-, y, -⟩ | ⟨-, y, -⟩
              · rw [y]; exact z1
              · rw [y, up_n _ _ e]; exact z1
  exact loop 4 0 σ U K _ _ ls (by omega) (Nat.zero_le _) hV (Or.inl ⟨rfl, fun _ _ => rfl⟩) (fun a ha => absurd ha (Nat.not_lt_zero a)) rfl hI hl
def StF (n b : Nat) (U : Nat → Nat → Option Int32) (hm : Nat → Int32) (U' : Nat → Nat → Option Int32) (hm' : Nat → Int32) : Prop := Stl n b U hm U' hm' ∧ ∀ a, a < 3 → a ≠ n → U' a b = none
set_option maxHeartbeats 4000000 in
/-- reads a block -/
theorem M_readBlock (l : Launch) (D : va_G) (h : Nat → Nat) (d : Nat → ClassId) (R n b : Nat) (hn : n < 3) (hb16 : b < 16) (σ : FS) (U : Nat → Nat → Option Int32) (K : Nat → Nat → Bool) (hV : fsInv σ R U K) : ob_Mi l yX1_readBlock cX1_readBlock 4 (some .int) rmX1_readBlock D 0 [.int (nI R)] fsKs h d σ [.int (nI n), .int (nI b)] (fun v σ1 => ∃ (U1 : Nat → Nat → Option Int32) (K1 : Nat → Nat → Bool), fsInv σ1 R U1 K1 ∧ StF n b U (σ 2) U1 (σ1 2) ∧ v = (U1 n b).getD (σ1 2 b) ∧ σ1 1 = σ 1) := by
  refine ob_ofWi (C := RX1) (by decide) rfl (Nat.le_of_ble_eq_true rfl) ?_
  intro p e s m args below meth c A Q ls hX hAA hI hret hl
  have hx := hX.1.1
  have hb := hX.1.2.1
  have hts := hX.1.2.2.2.2
  have hl : lv_has ls 4 [(0, .ref (h 0)), (1, .int (nI n)), (2, .int (nI b))] := hl
  refine lv_aload_n hx hb dX1_readBlock_0 rfl (lv_at hl 0 rfl) ?_
  refine lv_iload_n hx hb dX1_readBlock_1 rfl (lv_at hl 1 rfl) ?_
  refine lv_iload_n hx hb dX1_readBlock_2 rfl (lv_at hl 2 rfl) ?_
  refine lv_iconst (v := 1) hx hb dX1_readBlock_3 (by decide) ?_
  refine ob_callv hX hAA hI rfl (M_take l D h d R n b hn hb16 1 (Or.inl rfl) σ U K hV) (cwX1_take hts rfl rfl ⟨by decide, by decide⟩) rfl hl.1 (rest := []) (by simp [Value.category]) rfl dX1_readBlock_4 (fun τ H locs hp hI => ?_)
  obtain ⟨U1, K1, hV1, hS, hot, hlk, h1⟩ := hp
  obtain ⟨⟨J, C, hA, hs⟩, h71, hx21, hlk1⟩ := hV1
  have hV1 : fsInv τ R U1 K1 := ⟨⟨J, C, hA, hs⟩, h71, hx21, hlk1⟩
  have hR := hA.2.1
  refine lv_aload_n hx hb dX1_readBlock_7 rfl (lv_at hl 0 rfl) ?_
  refine lv_iload_n hx hb dX1_readBlock_8 rfl (lv_at hl 1 rfl) ?_
  refine lv_iload_n hx hb dX1_readBlock_9 rfl (lv_at hl 2 rfl) ?_
  refine ob_calli hX hAA hI rfl (M_bringIn l D h d R n b hA.1 hR hn hb16 τ (J n) (C n) (hA.2.2 n hn).1 (hA.2.2 n hn).2) (cwX1_bringIn hts rfl rfl ⟨by decide, by decide⟩) rfl hl.1 (rest := []) (by simp [Value.category]) rfl dX1_readBlock_10 (fun v1 υ H locs hp hI => ?_)
  obtain ⟨i, J1, C1, hi, rfl, h9, hJ1, hC1, hvw, hcb, hfr, ho⟩ := hp
  have f2 : υ 2 = τ 2 := hfr 2 (by decide) (by decide) (by decide) (by decide) (by decide) (by decide) (by decide)
  have f1 : υ 1 = τ 1 := hfr 1 (by decide) (by decide) (by decide) (by decide) (by decide) (by decide) (by decide)
  have f8 : υ 8 = τ 8 := hfr 8 (by decide) (by decide) (by decide) (by decide) (by decide) (by decide) (by decide)
  have hV2 := fsInv_bring hV1 hn hs hb16 hJ1 hC1 hvw hcb f2 (hfr 7 (by decide) (by decide) (by decide) (by decide) (by decide) (by decide) (by decide)) f8 ho (fun a ha hne => (hot a ha hne).1) hlk
  refine lv_istore_n (lv' := [(3, .int (nI (n * 8 + i))), (0, .ref (h 0)), (1, .int (nI n)), (2, .int (nI b))]) hx hb dX1_readBlock_13 rfl hl (by decide) rfl (fun ls hl => ?_)
  refine lv_aload_n hx hb dX1_readBlock_14 rfl (lv_at hl 1 rfl) ?_
  refine fs_g10 hX hI dX1_readBlock_15 ?_
  refine lv_iload_n hx hb dX1_readBlock_18 rfl (lv_at hl 0 rfl) ?_
  refine ob_ld hX hI 10 rfl (n * 8 + i) (by omega) (by decide) dX1_readBlock_19 ?_
  refine hret _ _ _ _ _ _ ⟨U1, _, hV2.1, ⟨by rw [f2]; exact hS, fun a ha hne => (hot a ha hne).1⟩, ?_, f1.trans h1⟩ hI dX1_readBlock_20
  rw [f2]
  exact hV2.2 _ (fsC_hit hC1 hb16 hi h9)
set_option maxHeartbeats 4000000 in
/-- writes a block -/
theorem M_writeBlock (l : Launch) (D : va_G) (h : Nat → Nat) (d : Nat → ClassId) (R n b : Nat) (hn : n < 3) (hb16 : b < 16) (v : Int32) (σ : FS) (U : Nat → Nat → Option Int32) (K : Nat → Nat → Bool) (hV : fsInv σ R U K) : ob_Mv l yX1_writeBlock cX1_writeBlock 5 rmX1_writeBlock D 0 [.int (nI R)] fsKs h d σ [.int (nI n), .int (nI b), .int v] (fun σ1 => ∃ (U1 : Nat → Nat → Option Int32) (K1 : Nat → Nat → Bool), fsInv σ1 R (va_up U1 n (va_up (U1 n) b (some v))) K1 ∧ StF n b U (σ 2) U1 (σ1 2) ∧ σ1 1 = σ 1) := by
  refine ob_ofWv (C := RX1) (by decide) rfl (Nat.le_of_ble_eq_true rfl) ?_
  intro p e s m args below meth c A Q ls hX hAA hI hret hl
  have hx := hX.1.1
  have hb := hX.1.2.1
  have hts := hX.1.2.2.2.2
  have hl : lv_has ls 5 [(0, .ref (h 0)), (1, .int (nI n)), (2, .int (nI b)), (3, .int v)] := hl
  refine lv_aload_n hx hb dX1_writeBlock_0 rfl (lv_at hl 0 rfl) ?_
  refine lv_iload_n hx hb dX1_writeBlock_1 rfl (lv_at hl 1 rfl) ?_
  refine lv_iload_n hx hb dX1_writeBlock_2 rfl (lv_at hl 2 rfl) ?_
  refine lv_iconst (v := 2) hx hb dX1_writeBlock_3 (by decide) ?_
  refine ob_callv hX hAA hI rfl (M_take l D h d R n b hn hb16 2 (Or.inr rfl) σ U K hV) (cwX1_take hts rfl rfl ⟨by decide, by decide⟩) rfl hl.1 (rest := []) (by simp [Value.category]) rfl dX1_writeBlock_4 (fun τ H locs hp hI => ?_)
  obtain ⟨U1, K1, hV1, hS, hot, hlk, h1⟩ := hp
  obtain ⟨⟨J, C, hA, hs⟩, h71, hx21, hlk1⟩ := hV1
  have hV1 : fsInv τ R U1 K1 := ⟨⟨J, C, hA, hs⟩, h71, hx21, hlk1⟩
  have hR := hA.2.1
  refine lv_aload_n hx hb dX1_writeBlock_7 rfl (lv_at hl 0 rfl) ?_
  refine lv_iload_n hx hb dX1_writeBlock_8 rfl (lv_at hl 1 rfl) ?_
  refine lv_iload_n hx hb dX1_writeBlock_9 rfl (lv_at hl 2 rfl) ?_
  refine ob_calli hX hAA hI rfl (M_bringIn l D h d R n b hA.1 hR hn hb16 τ (J n) (C n) (hA.2.2 n hn).1 (hA.2.2 n hn).2) (cwX1_bringIn hts rfl rfl ⟨by decide, by decide⟩) rfl hl.1 (rest := []) (by simp [Value.category]) rfl dX1_writeBlock_10 (fun v1 υ H locs hp hI => ?_)
  obtain ⟨i, J1, C1, hi, rfl, h9, hJ1, hC1, hvw, hcb, hfr, ho⟩ := hp
  have f2 : υ 2 = τ 2 := hfr 2 (by decide) (by decide) (by decide) (by decide) (by decide) (by decide) (by decide)
  have f1 : υ 1 = τ 1 := hfr 1 (by decide) (by decide) (by decide) (by decide) (by decide) (by decide) (by decide)
  have f8 : υ 8 = τ 8 := hfr 8 (by decide) (by decide) (by decide) (by decide) (by decide) (by decide) (by decide)
  have hV2 := fsInv_bring hV1 hn hs hb16 hJ1 hC1 hvw hcb f2 (hfr 7 (by decide) (by decide) (by decide) (by decide) (by decide) (by decide) (by decide)) f8 ho (fun a ha hne => (hot a ha hne).1) hlk
  refine lv_istore (lv' := [(4, .int (nI (n * 8 + i))), (0, .ref (h 0)), (1, .int (nI n)), (2, .int (nI b)), (3, .int v)]) hx hb dX1_writeBlock_13 hl (by decide) rfl (fun ls hl => ?_)
  refine lv_aload_n hx hb dX1_writeBlock_15 rfl (lv_at hl 1 rfl) ?_
  refine fs_g10 hX hI dX1_writeBlock_16 ?_
  refine lv_iload hx hb dX1_writeBlock_19 (lv_at hl 0 rfl) ?_
  refine lv_iload_n hx hb dX1_writeBlock_21 rfl (lv_at hl 4 rfl) ?_
  refine ob_st hX hI 10 rfl (n * 8 + i) (by omega) (by decide) dX1_writeBlock_22 (fun H locs hI => ?_)
  refine lv_aload_n hx hb dX1_writeBlock_23 rfl (lv_at hl 1 rfl) ?_
  refine fs_g11 hX hI dX1_writeBlock_24 ?_
  refine lv_iload hx hb dX1_writeBlock_27 (lv_at hl 0 rfl) ?_
  refine lv_iconst (v := 1) hx hb dX1_writeBlock_29 (by decide) ?_
  refine ob_zst hX hI 11 rfl (n * 8 + i) (by omega) (by decide) (by decide) dX1_writeBlock_30 (fun H locs hI => ?_)
  refine hret _ _ _ _ _ ⟨U1, _, fsInv_write hV2.1 hn hb16 hi h9 rfl (fun a ha hne => ⟨(hot a ha hne).1, by rw [up_n _ _ hne]; exact (hot a ha hne).2 rfl⟩) (by rw [f8]; exact hlk), ?_, ?_⟩ hI dX1_writeBlock_31
  · rw [st_o _ _ _ (show 2 ≠ 11 by decide), st_o _ _ _ (show 2 ≠ 10 by decide), f2]; exact ⟨hS, fun a ha hne => (hot a ha hne).1⟩
  · rw [st_o _ _ _ (show 1 ≠ 11 by decide), st_o _ _ _ (show 1 ≠ 10 by decide)]; exact f1.trans h1
end
section
/-! CONTRACTS of SharedDiskFs: die -/
set_option maxRecDepth 100000
set_option maxHeartbeats 4000000 in
/-- a node dies -/
theorem M_die (l : Launch) (D : va_G) (h : Nat → Nat) (d : Nat → ClassId) (R n : Nat) (hR : R ≤ 8) (hn : n < 3) (σ : FS) (J : Nat → Option Int32) (C : Nat → Option (Int32 × Int32)) (hJ : fsJ σ n J) (hC : fsC σ R n C) : ob_Mv l yX1_die cX1_die 4 rmX1_die D 0 [.int (nI R)] fsKs h d σ [.int (nI n)] (fun σ1 => fsJ σ1 n (fun _ => none) ∧ fsC σ1 R n (fun _ => none) ∧ (((σ 7 n ≠ 0 ∧ fsS σ n = σ 6 n) ∧ ∀ b, b < 16 → σ1 2 b = (J b).getD (σ 2 b)) ∨ (¬ (σ 7 n ≠ 0 ∧ fsS σ n = σ 6 n) ∧ ∀ b, b < 16 → σ1 2 b = σ 2 b)) ∧ σ1 7 = upd (σ 7) n 0 ∧ σ1 1 = upd (σ 1) n 0 ∧ (∀ a, a ≠ n → ∀ b, b < 16 → σ1 8 (a * 16 + b) = σ 8 (a * 16 + b)) ∧ oth_ n σ σ1) := by
  refine ob_ofWv (C := RX1) (by decide) rfl (Nat.le_of_ble_eq_true rfl) ?_
  intro p e s m args below meth c A Q ls hX hAA hI hret hl
  have hx := hX.1.1
  have hb := hX.1.2.1
  have hts := hX.1.2.2.2.2
  have hl : lv_has ls 4 [(0, .ref (h 0)), (1, .int (nI n))] := hl
  have hj16 := jn_le J
  have tail : ∀ (υ : FS) (H : Heap) (locs : List Loc) (ls : Array Slot), fsJ υ n (fun _ => none) → fsC υ R n (fun _ => none) → (((σ 7 n ≠ 0 ∧ fsS σ n = σ 6 n) ∧ ∀ b, b < 16 → υ 2 b = (J b).getD (σ 2 b)) ∨ (¬ (σ 7 n ≠ 0 ∧ fsS σ n = σ 6 n) ∧ ∀ b, b < 16 → υ 2 b = σ 2 b)) → υ 7 = upd (σ 7) n 0 → υ 1 = upd (σ 1) n 0 → υ 8 = σ 8 → oth_ n σ υ → ob_I D 0 [.int (nI R)] fsKs h d υ A s.heap H locs → lv_has ls 4 [(0, .ref (h 0)), (1, .int (nI n))] → W p l e rmX1_die s m args below meth c H locs 0 0 Q (F0 m 57 ls []) := by
    intro υ H locs ls hJu hCu hhu h7u h1u h8u hou hI hl
    refine lv_iconst (v := nI 0) hx hb dX1_die_57 (by decide) ?_
    refine lv_istore_n (lv' := [(3, .int (nI 0)), (0, .ref (h 0)), (1, .int (nI n))]) hx hb dX1_die_58 rfl hl (by decide) rfl (fun ls hl => ?_)
    have loop : ∀ (k i : Nat) (τ : FS) (H : Heap) (locs : List Loc) (ls : Array Slot), 16 < i + k → i ≤ 16 → (∀ k, k ≠ 8 → τ k = υ k) → (∀ a, a ≠ n → ∀ b, b < 16 → τ 8 (a * 16 + b) = σ 8 (a * 16 + b)) → ob_I D 0 [.int (nI R)] fsKs h d τ A s.heap H locs → lv_has ls 4 [(3, .int (nI i)), (0, .ref (h 0)), (1, .int (nI n))] → W p l e rmX1_die s m args below meth c H locs 0 0 Q (F0 m 59 ls []) := by
      intro k
      induction k with
      | zero => intro i τ H locs ls h1 h2; exact absurd h1 (by omega)
      | succ k ih =>
        intro i τ H locs ls hk hi hfr h8 hI hl
        refine lv_iload_n hx hb dX1_die_59 rfl (lv_at hl 0 rfl) ?_
        refine lv_bipush (v := nI 16) hx hb dX1_die_60 (by decide) ?_
        refine n_icmp_ge (tgt := 83) hx hb dX1_die_62 (by decide) (by omega) (by omega) (fun q => ?_) (fun q => ?_)
        · skip
          refine hret _ _ _ _ _ ⟨fsJ_cong hJu ?_ (fun i _ => ?_) (fun i _ => ?_), fsC_cong hCu hR ?_ (fun i _ => ?_) (fun i _ => ?_) (fun i _ => ?_), ?_, ?_, ?_, h8, ?_⟩ hI dX1_die_83
          · rw [hfr 3 (by decide)]
          · rw [hfr 4 (by decide)]
          · rw [hfr 5 (by decide)]
          · rw [hfr 12 (by decide)]
          · rw [hfr 9 (by decide)]
          · rw [hfr 10 (by decide)]
          · rw [hfr 11 (by decide)]
          · rw [hfr 2 (by decide)]; exact hhu
          · rw [hfr 7 (by decide)]; exact h7u
          · rw [hfr 1 (by decide)]; exact h1u
          · intro a ha
            rw [hfr 3 (by decide), hfr 12 (by decide), hfr 4 (by decide), hfr 5 (by decide), hfr 9 (by decide), hfr 10 (by decide), hfr 11 (by decide)]
            exact hou a ha
        · skip
          refine lv_aload_n hx hb dX1_die_65 rfl (lv_at hl 1 rfl) ?_
          refine fs_g8 hX hI dX1_die_66 ?_
          refine lv_iload_n hx hb dX1_die_69 rfl (lv_at hl 2 rfl) ?_
          refine lv_bipush (v := nI 16) hx hb dX1_die_70 (by decide) ?_
          refine n_imul hx hb dX1_die_72 ?_
          refine lv_iload_n hx hb dX1_die_73 rfl (lv_at hl 0 rfl) ?_
          refine n_iadd hx hb dX1_die_74 ?_
          refine lv_iconst (v := 0) hx hb dX1_die_75 (by decide) ?_
          refine ob_st hX hI 8 rfl (n * 16 + i) (by omega) (by decide) dX1_die_76 (fun H locs hI => ?_)
          refine n_iinc (k := 0) (lv' := [(3, .int (nI (i + 1))), (0, .ref (h 0)), (1, .int (nI n))]) hx hb dX1_die_77 hl rfl (by decide) rfl (fun ls hl => ?_)
          refine lv_goto (tgt := 59) hx hb dX1_die_80 (by decide) ?_
          exact ih (i + 1) _ H locs ls (by omega) (by omega) (fun k k8 => by rw [st_o _ _ _ k8]; exact hfr k k8) (fun a ha b hb => by rw [st_ne _ _ (Or.inr (by omega))]; exact h8 a ha b hb) hI hl
    exact loop 17 0 υ H locs ls (by omega) (Nat.zero_le _) (fun _ _ => rfl) (fun a _ b _ => by rw [h8u]) hI hl
  refine lv_aload_n hx hb dX1_die_0 rfl (lv_at hl 0 rfl) ?_
  refine fs_g1 hX hI dX1_die_1 ?_
  refine lv_iload_n hx hb dX1_die_4 rfl (lv_at hl 1 rfl) ?_
  refine lv_iconst (v := 0) hx hb dX1_die_5 (by decide) ?_
  refine ob_zst hX hI 1 rfl (n) (by omega) (by decide) (by decide) dX1_die_6 (fun H locs hI => ?_)
  refine lv_iload_n hx hb dX1_die_7 rfl (lv_at hl 1 rfl) ?_
  refine lv_bipush (v := nI 8) hx hb dX1_die_8 (by decide) ?_
  refine n_imul hx hb dX1_die_10 ?_
  refine lv_istore_n (lv' := [(2, .int (nI (n * 8))), (0, .ref (h 0)), (1, .int (nI n))]) hx hb dX1_die_11 rfl hl (by decide) rfl (fun ls hl => ?_)
  have loop : ∀ (k i : Nat) (τ : FS) (H : Heap) (locs : List Loc) (ls : Array Slot), 8 < i + k → i ≤ 8 → (∀ j, j < i → τ 9 (n * 8 + j) = -1 ∧ τ 11 (n * 8 + j) = 0) → (∀ k, k ≠ 9 → k ≠ 11 → τ k = st_ σ 1 n 0 k) → oth_ n σ τ → ob_I D 0 [.int (nI R)] fsKs h d τ A s.heap H locs → lv_has ls 4 [(2, .int (nI (n * 8 + i))), (0, .ref (h 0)), (1, .int (nI n))] → W p l e rmX1_die s m args below meth c H locs 0 0 Q (F0 m 12 ls []) := by
    intro k
    induction k with
    | zero => intro i τ H locs ls h1 h2; exact absurd h1 (by omega)
    | succ k ih =>
      intro i τ H locs ls hk hi hz hfr ho hI hl
      refine lv_iload_n hx hb dX1_die_12 rfl (lv_at hl 0 rfl) ?_
      refine lv_iload_n hx hb dX1_die_13 rfl (lv_at hl 2 rfl) ?_
      refine lv_bipush (v := nI 8) hx hb dX1_die_14 (by decide) ?_
      refine n_imul hx hb dX1_die_16 ?_
      refine lv_bipush (v := nI 8) hx hb dX1_die_17 (by decide) ?_
      refine n_iadd hx hb dX1_die_19 ?_
      refine n_icmp_ge (tgt := 34) hx hb dX1_die_20 (by decide) (by omega) (by omega) (fun q => ?_) (fun q => ?_)
      · skip
        have t3 : τ 3 = σ 3 := by rw [hfr 3 (by decide) (by decide), st_o _ _ _ (by decide)]
        have t4 : τ 4 = σ 4 := by rw [hfr 4 (by decide) (by decide), st_o _ _ _ (by decide)]
        have t5 : τ 5 = σ 5 := by rw [hfr 5 (by decide) (by decide), st_o _ _ _ (by decide)]
        have t6 : τ 6 = σ 6 := by rw [hfr 6 (by decide) (by decide), st_o _ _ _ (by decide)]
        have t7 : τ 7 = σ 7 := by rw [hfr 7 (by decide) (by decide), st_o _ _ _ (by decide)]
        have t8 : τ 8 = σ 8 := by rw [hfr 8 (by decide) (by decide), st_o _ _ _ (by decide)]
        have t2 : τ 2 = σ 2 := by rw [hfr 2 (by decide) (by decide), st_o _ _ _ (by decide)]
        have t12 : τ 12 = σ 12 := by rw [hfr 12 (by decide) (by decide), st_o _ _ _ (by decide)]
        have t1 : τ 1 = upd (σ 1) n 0 := by rw [hfr 1 (by decide) (by decide), st_k]
        have hJt : fsJ τ n J := fsJ_cong hJ (by rw [t3]) (fun _ _ => by rw [t4]) (fun _ _ => by rw [t5])
        have hCt : fsC τ R n (fun _ => none) := by
          refine ⟨by rw [t12]; exact hC.1, fun j hj => Or.inl (hz j (by omega)), fun b _ hs => (by cases hs), fun j k hj hk e hne => ?_⟩
          exact absurd (hz j (by omega)).1 hne
        refine lv_aload_n hx hb dX1_die_34 rfl (lv_at hl 1 rfl) ?_
        refine lv_iload_n hx hb dX1_die_35 rfl (lv_at hl 2 rfl) ?_
        refine ob_calli hX hAA hI rfl (M_whole l D h d R n hn (jn_ J) hj16 τ hJt.1) (cwX1_whole hts rfl rfl ⟨by decide, by decide⟩) rfl hl.1 (rest := []) (by simp [Value.category]) rfl dX1_die_36 (fun v1 σ1 H locs hp hI => ?_)
        obtain ⟨hs0, hp⟩ := hp
        rw [hs0] at hI
        rw [t7, t6, fsS_cong n t3 t4 t5] at hp
        rcases hp with ⟨rfl, hw⟩ | ⟨rfl, hw⟩
        · skip
          refine lv_istore_n (lv' := [(2, .int 1), (0, .ref (h 0)), (1, .int (nI n))]) hx hb dX1_die_39 rfl hl (by decide) rfl (fun ls hl => ?_)
          refine lv_iload_n hx hb dX1_die_40 rfl (lv_at hl 0 rfl) ?_
          refine lv_if_eq (tgt := 52) hx hb dX1_die_41 (by decide) (fun q2 => ?_) (fun q2 => ?_)
          · exact absurd q2 (by decide)
          · skip
            refine lv_aload_n hx hb dX1_die_44 rfl (lv_at hl 1 rfl) ?_
            refine lv_iload_n hx hb dX1_die_45 rfl (lv_at hl 2 rfl) ?_
            refine ob_callv hX hAA hI rfl (M_bringHome l D h d R n hn τ J hJt) (cwX1_bringHome hts rfl rfl ⟨by decide, by decide⟩) rfl hl.1 (rest := []) (by simp [Value.category]) rfl dX1_die_46 (fun υ H locs hp hI => ?_)
            obtain ⟨hh, h3, h7, hfr3⟩ := hp
            refine lv_goto (tgt := 57) hx hb dX1_die_49 (by decide) ?_
            refine tail υ H locs ls (fsJ_none (by rw [h3]; simp [upd])) (fsC_cong hCt hR ?_ (fun j _ => ?_) (fun j _ => ?_) (fun j _ => ?_)) (Or.inl ⟨hw, fun b hb => by rw [hh b hb, t2]⟩) ?_ ?_ ?_ (oth_tr ho ?_) hI (lv_sub hl [1, 2] rfl)
            · rw [hfr3 12 (by decide) (by decide) (by decide)]
            · rw [hfr3 9 (by decide) (by decide) (by decide)]
            · rw [hfr3 10 (by decide) (by decide) (by decide)]
            · rw [hfr3 11 (by decide) (by decide) (by decide)]
            · rw [h7, t7]
            · rw [hfr3 1 (by decide) (by decide) (by decide), t1]
            · rw [hfr3 8 (by decide) (by decide) (by decide), t8]
            · intro a ha
              refine ⟨?_, ?_, fun i hi => ⟨?_, ?_⟩, fun i hi => ⟨?_, ?_, ?_⟩⟩
              · rw [h3]; simp [upd, ha]
              · rw [hfr3 12 (by decide) (by decide) (by decide)]
              · rw [hfr3 4 (by decide) (by decide) (by decide)]
              · rw [hfr3 5 (by decide) (by decide) (by decide)]
              · rw [hfr3 9 (by decide) (by decide) (by decide)]
              · rw [hfr3 10 (by decide) (by decide) (by decide)]
              · rw [hfr3 11 (by decide) (by decide) (by decide)]
        · skip
          refine lv_istore_n (lv' := [(2, .int 0), (0, .ref (h 0)), (1, .int (nI n))]) hx hb dX1_die_39 rfl hl (by decide) rfl (fun ls hl => ?_)
          refine lv_iload_n hx hb dX1_die_40 rfl (lv_at hl 0 rfl) ?_
          refine lv_if_eq (tgt := 52) hx hb dX1_die_41 (by decide) (fun q2 => ?_) (fun q2 => ?_)
          · skip
            refine lv_aload_n hx hb dX1_die_52 rfl (lv_at hl 1 rfl) ?_
            refine lv_iload_n hx hb dX1_die_53 rfl (lv_at hl 2 rfl) ?_
            refine ob_callv hX hAA hI rfl (M_emptyJournal l D h d R n hn τ) (cwX1_emptyJournal hts rfl rfl ⟨by decide, by decide⟩) rfl hl.1 (rest := []) (by simp [Value.category]) rfl dX1_die_54 (fun υ H locs hp hI => ?_)
            have h3 : υ 3 = upd (τ 3) n 0 := by rw [hp, st_o _ _ _ (by decide), st_k]
            have h7 : υ 7 = upd (τ 7) n 0 := by rw [hp, st_k, st_o _ _ _ (by decide)]
            have hfr3 : ∀ k, k ≠ 3 → k ≠ 7 → υ k = τ k := fun k k3 k7 => by rw [hp, st_o _ _ _ k7, st_o _ _ _ k3]
            refine tail υ H locs ls (fsJ_none (by rw [h3]; simp [upd])) (fsC_cong hCt hR ?_ (fun j _ => ?_) (fun j _ => ?_) (fun j _ => ?_)) (Or.inr ⟨hw, fun b hb => by rw [hfr3 2 (by decide) (by decide), t2]⟩) ?_ ?_ ?_ (oth_tr ho ?_) hI (lv_sub hl [1, 2] rfl)
            · rw [hfr3 12 (by decide) (by decide)]
            · rw [hfr3 9 (by decide) (by decide)]
            · rw [hfr3 10 (by decide) (by decide)]
            · rw [hfr3 11 (by decide) (by decide)]
            · rw [h7, t7]
            · rw [hfr3 1 (by decide) (by decide), t1]
            · rw [hfr3 8 (by decide) (by decide), t8]
            · intro a ha
              refine ⟨?_, ?_, fun i hi => ⟨?_, ?_⟩, fun i hi => ⟨?_, ?_, ?_⟩⟩
              · rw [h3]; simp [upd, ha]
              · rw [hfr3 12 (by decide) (by decide)]
              · rw [hfr3 4 (by decide) (by decide)]
              · rw [hfr3 5 (by decide) (by decide)]
              · rw [hfr3 9 (by decide) (by decide)]
              · rw [hfr3 10 (by decide) (by decide)]
              · rw [hfr3 11 (by decide) (by decide)]
          · exact absurd rfl q2
      · skip
        refine lv_aload_n hx hb dX1_die_23 rfl (lv_at hl 1 rfl) ?_
        refine lv_iload_n hx hb dX1_die_24 rfl (lv_at hl 0 rfl) ?_
        refine ob_callv hX hAA hI rfl (M_dropCell l D h d R (n * 8 + i) (by omega) τ) (cwX1_dropCell hts rfl rfl ⟨by decide, by decide⟩) rfl hl.1 (rest := []) (by simp [Value.category]) rfl dX1_die_25 (fun τ1 H locs hp hI => ?_)
        subst hp
        refine n_iinc (k := 0) (lv' := [(2, .int (nI (n * 8 + i + 1))), (0, .ref (h 0)), (1, .int (nI n))]) hx hb dX1_die_28 hl rfl (by decide) rfl (fun ls hl => ?_)
        refine lv_goto (tgt := 12) hx hb dX1_die_31 (by decide) ?_
        refine ih (i + 1) _ H locs ls (by omega) (by omega) (fun j hj => ?_) (fun k k9 k11 => ?_) ?_ hI hl
        · by_cases e : j = i
          · rw [e, st_at, st_ne _ _ (Or.inl (by decide)), st_at]
            exact ⟨rfl, rfl⟩
          · rw [st_ne _ _ (Or.inl (by decide)), st_ne _ _ (Or.inr (by omega)), st_ne _ _ (Or.inr (by omega)), st_ne _ _ (Or.inl (by decide))]
            exact hz j (by omega)
        · rw [st_o _ _ _ k11, st_o _ _ _ k9]
          exact hfr k k9 k11
        · exact oth_tr ho (oth_tr (oth_cell _ (-1) (by omega) (Or.inl rfl)) (oth_cell _ 0 (by omega) (Or.inr (Or.inr rfl))))
  exact loop 9 0 _ _ _ ls (by omega) (Nat.zero_le _) (fun j hj => absurd hj (Nat.not_lt_zero j)) (fun _ _ _ => rfl) (oth_any σ 0 (by omega)) hI hl
end
section
/-! CONTRACTS of SharedDiskFs: read, write, swap, sync, crash, crashInSync -/
set_option maxRecDepth 100000
/-- x is a number under N (then Q of it), or not (then P) -/
def gX (N : Nat) (x : Int32) (P : Prop) (Q : Nat → Prop) : Prop := ((∀ n, n < N → x ≠ nI n) ∧ P) ∨ ∃ n, n < N ∧ x = nI n ∧ Q n
theorem gX_in {N n : Nat} {P : Prop} {Q : Nat → Prop} (hN : N ≤ 2 ^ 30) (hn : n < N) : gX N (nI n) P Q ↔ Q n := by
  constructor
  · rintro (⟨h, -⟩ | ⟨m, hm, e, q⟩)
    · exact absurd rfl (h n hn)
    · have := nI_inj (by omega) (by omega) e
      subst this
      exact q
  · intro q
    exact Or.inr ⟨n, hn, rfl, q⟩
theorem gX_out {N : Nat} {x : Int32} {P : Prop} {Q : Nat → Prop} (h : ∀ n, n < N → x ≠ nI n) : gX N x P Q ↔ P := by
  constructor
  · rintro (⟨-, p⟩ | ⟨m, hm, e, q⟩)
    · exact p
    · exact absurd e (h m hm)
  · intro p
    exact Or.inl ⟨h, p⟩
def wr_ (U : Nat → Nat → Option Int32) (n b : Nat) (v : Int32) : Nat → Nat → Option Int32 := va_up U n (va_up (U n) b (some v))
def pR (R : Nat) (σ : FS) (U : Nat → Nat → Option Int32) (n b : Nat) (v : Int32) (σ1 : FS) : Prop := ∃ (U1 : Nat → Nat → Option Int32) (K1 : Nat → Nat → Bool), fsInv σ1 R U1 K1 ∧ StF n b U (σ 2) U1 (σ1 2) ∧ v = (U1 n b).getD (σ1 2 b) ∧ σ1 1 = σ 1
def pW (R : Nat) (σ : FS) (U : Nat → Nat → Option Int32) (n b : Nat) (x : Int32) (v : Int32) (σ1 : FS) : Prop := ∃ (U1 : Nat → Nat → Option Int32) (K1 : Nat → Nat → Bool), fsInv σ1 R (wr_ U1 n b x) K1 ∧ StF n b U (σ 2) U1 (σ1 2) ∧ v = nI (jn_ (wr_ U1 n b x n)) ∧ σ1 1 = σ 1
def pS (R : Nat) (σ : FS) (U : Nat → Nat → Option Int32) (n a b : Nat) (v : Int32) (σ1 : FS) : Prop := ∃ (U1 : Nat → Nat → Option Int32) (h1 : Nat → Int32) (U2 : Nat → Nat → Option Int32) (h2 : Nat → Int32) (U3 : Nat → Nat → Option Int32) (h3 : Nat → Int32) (U4 : Nat → Nat → Option Int32) (K4 : Nat → Nat → Bool) (x y : Int32), StF n a U (σ 2) U1 h1 ∧ x = (U1 n a).getD (h1 a) ∧ StF n b U1 h1 U2 h2 ∧ y = (U2 n b).getD (h2 b) ∧ StF n a U2 h2 U3 h3 ∧ StF n b (wr_ U3 n a y) h3 U4 (σ1 2) ∧ fsInv σ1 R (wr_ U4 n b x) K4 ∧ v = nI (jn_ (wr_ U4 n b x n)) ∧ σ1 1 = σ 1
def pY (R : Nat) (σ : FS) (U : Nat → Nat → Option Int32) (n : Nat) (v : Int32) (σ1 : FS) : Prop := (∃ K1 : Nat → Nat → Bool, fsInv σ1 R (va_up U n (fun _ => none)) K1) ∧ (∀ b, b < 16 → σ1 2 b = (U n b).getD (σ 2 b)) ∧ v = nI (jn_ (U n)) ∧ σ1 1 = σ 1
def pC (R : Nat) (σ : FS) (U : Nat → Nat → Option Int32) (n : Nat) (lt : Int32) (v : Int32) (σ1 : FS) : Prop := (∃ K1 : Nat → Nat → Bool, fsInv σ1 R (va_up U n (fun _ => none)) K1) ∧ (lt ≠ 0 → ∀ b, b < 16 → σ1 2 b = (U n b).getD (σ 2 b)) ∧ (lt = 0 → ∀ b, b < 16 → σ1 2 b = σ 2 b) ∧ v = nI (jn_ (U n)) ∧ σ1 1 = upd (σ 1) n 0
def sm_ (U : Nat → Nat → Option Int32) : Nat → Nat
  | 0 => 0
  | i + 1 => sm_ U i + jn_ (U i)
theorem jn_U {n : Nat} {U : Nat → Nat → Option Int32} {J : Nat → Nat → Option Int32} {C : Nat → Nat → Option (Int32 × Int32)} (h : ∀ b, b < 16 → U n b = vw_ (J n b) (C n b)) : jn_ (fun b => vw_ (J n b) (C n b)) = jn_ (U n) := jn_cong (fun b hb => by rw [h b hb])
set_option maxHeartbeats 4000000 in
/-- read -/
theorem M_read (l : Launch) (D : va_G) (h : Nat → Nat) (d : Nat → ClassId) (R : Nat) (x y : Int32) (σ : FS) (U : Nat → Nat → Option Int32) (K : Nat → Nat → Bool) (hV : fsInv σ R U K) : ob_Mi l yX1_read cX1_read 3 (some .int) rmX1_read D 0 [.int (nI R)] fsKs h d σ [.int x, .int y] (fun v σ1 => gX 3 x (v = -1 ∧ σ1 = σ) (fun n => gX 16 y (v = -2 ∧ σ1 = σ) (fun b => (σ 1 n = 0 ∧ v = -3 ∧ σ1 = σ) ∨ (σ 1 n ≠ 0 ∧ pR R σ U n b v σ1)))) := by
  refine ob_ofWi (C := RX1) (by decide) rfl (Nat.le_of_ble_eq_true rfl) ?_
  intro p e s m args below meth c A Q ls hX hAA hI hret hl
  have hx := hX.1.1
  have hb := hX.1.2.1
  have hts := hX.1.2.2.2.2
  have hl : lv_has ls 3 [(0, .ref (h 0)), (1, .int x), (2, .int y)] := hl
  refine lv_iload_n hx hb dX1_read_0 rfl (lv_at hl 1 rfl) ?_
  refine ob_calls hX (M_badNode l x) (cwX1_badNode hts rfl rfl ⟨by decide, by decide⟩) rfl hl.1 (rest := []) (by decide) rfl dX1_read_1 (fun v0 hp => ?_)
  rcases hp with ⟨rfl, hout⟩ | ⟨rfl, n, hn, rfl⟩
  · skip
    refine lv_if_eq (tgt := 9) hx hb dX1_read_4 (by decide) (fun q0 => ?_) (fun q0 => ?_)
    · exact absurd q0 (by decide)
    · skip
      refine lv_iconst (v := (-1)) hx hb dX1_read_7 (by decide) ?_
      exact hret _ _ _ _ _ _ (Or.inl ⟨hout, rfl, rfl⟩) hI dX1_read_8
  · skip
    refine lv_if_eq (tgt := 9) hx hb dX1_read_4 (by decide) (fun q0 => ?_) (fun q0 => ?_)
    · skip
      refine lv_iload_n hx hb dX1_read_9 rfl (lv_at hl 2 rfl) ?_
      refine ob_calls hX (M_badBlock l y) (cwX1_badBlock hts rfl rfl ⟨by decide, by decide⟩) rfl hl.1 (rest := []) (by decide) rfl dX1_read_10 (fun v0 hp => ?_)
      rcases hp with ⟨rfl, hout⟩ | ⟨rfl, b, hb16, rfl⟩
      · skip
        refine lv_if_eq (tgt := 19) hx hb dX1_read_13 (by decide) (fun q0 => ?_) (fun q0 => ?_)
        · exact absurd q0 (by decide)
        · skip
          refine lv_bipush (v := (-2)) hx hb dX1_read_16 (by decide) ?_
          exact hret _ _ _ _ _ _ (Or.inr ⟨n, hn, rfl, Or.inl ⟨hout, rfl, rfl⟩⟩) hI dX1_read_18
      · skip
        refine lv_if_eq (tgt := 19) hx hb dX1_read_13 (by decide) (fun q0 => ?_) (fun q0 => ?_)
        · skip
          refine lv_aload_n hx hb dX1_read_19 rfl (lv_at hl 0 rfl) ?_
          refine fs_g1 hX hI dX1_read_20 ?_
          refine lv_iload_n hx hb dX1_read_23 rfl (lv_at hl 1 rfl) ?_
          refine ob_zld hX hI 1 rfl (n) (by omega) (by decide) dX1_read_24 ?_
          refine lv_if_ne (tgt := 31) hx hb dX1_read_25 (by decide) (fun qd => ?_) (fun qd => ?_)
          · skip
            refine lv_aload_n hx hb dX1_read_31 rfl (lv_at hl 0 rfl) ?_
            refine lv_iload_n hx hb dX1_read_32 rfl (lv_at hl 1 rfl) ?_
            refine lv_iload_n hx hb dX1_read_33 rfl (lv_at hl 2 rfl) ?_
            refine ob_calli hX hAA hI rfl (M_readBlock l D h d R n b hn hb16 σ U K hV) (cwX1_readBlock hts rfl rfl ⟨by decide, by decide⟩) rfl hl.1 (rest := []) (by simp [Value.category]) rfl dX1_read_34 (fun v1 σ1 H locs hp hI => ?_)
            exact hret _ _ _ _ _ _ (Or.inr ⟨n, hn, rfl, Or.inr ⟨b, hb16, rfl, Or.inr ⟨qd, hp⟩⟩⟩) hI dX1_read_37
          · skip
            refine lv_bipush (v := (-3)) hx hb dX1_read_28 (by decide) ?_
            exact hret _ _ _ _ _ _ (Or.inr ⟨n, hn, rfl, Or.inr ⟨b, hb16, rfl, Or.inl ⟨qd, rfl, rfl⟩⟩⟩) hI dX1_read_30
        · exact absurd rfl q0
    · exact absurd rfl q0
set_option maxHeartbeats 4000000 in
/-- write -/
theorem M_write (l : Launch) (D : va_G) (h : Nat → Nat) (d : Nat → ClassId) (R : Nat) (x y z : Int32) (σ : FS) (U : Nat → Nat → Option Int32) (K : Nat → Nat → Bool) (hV : fsInv σ R U K) : ob_Mi l yX1_write cX1_write 4 (some .int) rmX1_write D 0 [.int (nI R)] fsKs h d σ [.int x, .int y, .int z] (fun v σ1 => gX 3 x (v = -1 ∧ σ1 = σ) (fun n => gX 16 y (v = -2 ∧ σ1 = σ) (fun b => (σ 1 n = 0 ∧ v = -3 ∧ σ1 = σ) ∨ (σ 1 n ≠ 0 ∧ pW R σ U n b z v σ1)))) := by
  refine ob_ofWi (C := RX1) (by decide) rfl (Nat.le_of_ble_eq_true rfl) ?_
  intro p e s m args below meth c A Q ls hX hAA hI hret hl
  have hx := hX.1.1
  have hb := hX.1.2.1
  have hts := hX.1.2.2.2.2
  have hl : lv_has ls 4 [(0, .ref (h 0)), (1, .int x), (2, .int y), (3, .int z)] := hl
  refine lv_iload_n hx hb dX1_write_0 rfl (lv_at hl 1 rfl) ?_
  refine ob_calls hX (M_badNode l x) (cwX1_badNode hts rfl rfl ⟨by decide, by decide⟩) rfl hl.1 (rest := []) (by decide) rfl dX1_write_1 (fun v0 hp => ?_)
  rcases hp with ⟨rfl, hout⟩ | ⟨rfl, n, hn, rfl⟩
  · skip
    refine lv_if_eq (tgt := 9) hx hb dX1_write_4 (by decide) (fun q0 => ?_) (fun q0 => ?_)
    · exact absurd q0 (by decide)
    · skip
      refine lv_iconst (v := (-1)) hx hb dX1_write_7 (by decide) ?_
      exact hret _ _ _ _ _ _ (Or.inl ⟨hout, rfl, rfl⟩) hI dX1_write_8
  · skip
    refine lv_if_eq (tgt := 9) hx hb dX1_write_4 (by decide) (fun q0 => ?_) (fun q0 => ?_)
    · skip
      refine lv_iload_n hx hb dX1_write_9 rfl (lv_at hl 2 rfl) ?_
      refine ob_calls hX (M_badBlock l y) (cwX1_badBlock hts rfl rfl ⟨by decide, by decide⟩) rfl hl.1 (rest := []) (by decide) rfl dX1_write_10 (fun v0 hp => ?_)
      rcases hp with ⟨rfl, hout⟩ | ⟨rfl, b, hb16, rfl⟩
      · skip
        refine lv_if_eq (tgt := 19) hx hb dX1_write_13 (by decide) (fun q0 => ?_) (fun q0 => ?_)
        · exact absurd q0 (by decide)
        · skip
          refine lv_bipush (v := (-2)) hx hb dX1_write_16 (by decide) ?_
          exact hret _ _ _ _ _ _ (Or.inr ⟨n, hn, rfl, Or.inl ⟨hout, rfl, rfl⟩⟩) hI dX1_write_18
      · skip
        refine lv_if_eq (tgt := 19) hx hb dX1_write_13 (by decide) (fun q0 => ?_) (fun q0 => ?_)
        · skip
          refine lv_aload_n hx hb dX1_write_19 rfl (lv_at hl 0 rfl) ?_
          refine fs_g1 hX hI dX1_write_20 ?_
          refine lv_iload_n hx hb dX1_write_23 rfl (lv_at hl 1 rfl) ?_
          refine ob_zld hX hI 1 rfl (n) (by omega) (by decide) dX1_write_24 ?_
          refine lv_if_ne (tgt := 31) hx hb dX1_write_25 (by decide) (fun qd => ?_) (fun qd => ?_)
          · skip
            refine lv_aload_n hx hb dX1_write_31 rfl (lv_at hl 0 rfl) ?_
            refine lv_iload_n hx hb dX1_write_32 rfl (lv_at hl 1 rfl) ?_
            refine lv_iload_n hx hb dX1_write_33 rfl (lv_at hl 2 rfl) ?_
            refine lv_iload_n hx hb dX1_write_34 rfl (lv_at hl 3 rfl) ?_
            refine ob_callv hX hAA hI rfl (M_writeBlock l D h d R n b hn hb16 z σ U K hV) (cwX1_writeBlock hts rfl rfl ⟨by decide, by decide⟩) rfl hl.1 (rest := []) (by simp [Value.category]) rfl dX1_write_35 (fun σ1 H locs hp hI => ?_)
            obtain ⟨U1, K1, hV1, hS1, h11⟩ := hp
            obtain ⟨⟨J, C, hA, hs⟩, h7, hx2, hlk⟩ := hV1
            have hV1 : fsInv σ1 R (wr_ U1 n b z) K1 := ⟨⟨J, C, hA, hs⟩, h7, hx2, hlk⟩
            have hR := hA.2.1
            refine lv_aload_n hx hb dX1_write_38 rfl (lv_at hl 0 rfl) ?_
            refine lv_iload_n hx hb dX1_write_39 rfl (lv_at hl 1 rfl) ?_
            refine ob_calli hX hAA hI rfl (M_unsafeCount l D h d R n hR hn σ1 (J n) (C n) (hA.2.2 n hn).1 (hA.2.2 n hn).2) (cwX1_unsafeCount hts rfl rfl ⟨by decide, by decide⟩) rfl hl.1 (rest := []) (by simp [Value.category]) rfl dX1_write_40 (fun v2 σz H locs hp hI => ?_)
            obtain ⟨hz, v2v⟩ := hp
            rw [hz] at hI
            rw [jn_U (U := (wr_ U1 n b z)) (fun b hb => (hs n hn b hb).1)] at v2v
            exact hret _ _ _ _ _ _ (Or.inr ⟨n, hn, rfl, Or.inr ⟨b, hb16, rfl, Or.inr ⟨qd, U1, K1, hV1, hS1, v2v, h11⟩⟩⟩) hI dX1_write_43
          · skip
            refine lv_bipush (v := (-3)) hx hb dX1_write_28 (by decide) ?_
            exact hret _ _ _ _ _ _ (Or.inr ⟨n, hn, rfl, Or.inr ⟨b, hb16, rfl, Or.inl ⟨qd, rfl, rfl⟩⟩⟩) hI dX1_write_30
        · exact absurd rfl q0
    · exact absurd rfl q0
set_option maxHeartbeats 4000000 in
/-- swap -/
theorem M_swap (l : Launch) (D : va_G) (h : Nat → Nat) (d : Nat → ClassId) (R : Nat) (x y z : Int32) (σ : FS) (U : Nat → Nat → Option Int32) (K : Nat → Nat → Bool) (hV : fsInv σ R U K) : ob_Mi l yX1_swap cX1_swap 6 (some .int) rmX1_swap D 0 [.int (nI R)] fsKs h d σ [.int x, .int y, .int z] (fun v σ1 => gX 3 x (v = -1 ∧ σ1 = σ) (fun n => gX 16 y (v = -2 ∧ σ1 = σ) (fun a => gX 16 z (v = -2 ∧ σ1 = σ) (fun b => (σ 1 n = 0 ∧ v = -3 ∧ σ1 = σ) ∨ (σ 1 n ≠ 0 ∧ pS R σ U n a b v σ1))))) := by
  refine ob_ofWi (C := RX1) (by decide) rfl (Nat.le_of_ble_eq_true rfl) ?_
  intro p e s m args below meth c A Q ls hX hAA hI hret hl
  have hx := hX.1.1
  have hb := hX.1.2.1
  have hts := hX.1.2.2.2.2
  have hl : lv_has ls 6 [(0, .ref (h 0)), (1, .int x), (2, .int y), (3, .int z)] := hl
  refine lv_iload_n hx hb dX1_swap_0 rfl (lv_at hl 1 rfl) ?_
  refine ob_calls hX (M_badNode l x) (cwX1_badNode hts rfl rfl ⟨by decide, by decide⟩) rfl hl.1 (rest := []) (by decide) rfl dX1_swap_1 (fun v0 hp => ?_)
  rcases hp with ⟨rfl, hout⟩ | ⟨rfl, n, hn, rfl⟩
  · skip
    refine lv_if_eq (tgt := 9) hx hb dX1_swap_4 (by decide) (fun q0 => ?_) (fun q0 => ?_)
    · exact absurd q0 (by decide)
    · skip
      refine lv_iconst (v := (-1)) hx hb dX1_swap_7 (by decide) ?_
      exact hret _ _ _ _ _ _ (Or.inl ⟨hout, rfl, rfl⟩) hI dX1_swap_8
  · skip
    refine lv_if_eq (tgt := 9) hx hb dX1_swap_4 (by decide) (fun q0 => ?_) (fun q0 => ?_)
    · skip
      refine lv_iload_n hx hb dX1_swap_9 rfl (lv_at hl 2 rfl) ?_
      refine ob_calls hX (M_badBlock l y) (cwX1_badBlock hts rfl rfl ⟨by decide, by decide⟩) rfl hl.1 (rest := []) (by decide) rfl dX1_swap_10 (fun v0 hp => ?_)
      rcases hp with ⟨rfl, hout⟩ | ⟨rfl, a, ha16, rfl⟩
      · skip
        refine lv_if_ne (tgt := 23) hx hb dX1_swap_13 (by decide) (fun q0 => ?_) (fun q0 => ?_)
        · skip
          refine lv_bipush (v := (-2)) hx hb dX1_swap_23 (by decide) ?_
          exact hret _ _ _ _ _ _ (Or.inr ⟨n, hn, rfl, Or.inl ⟨hout, rfl, rfl⟩⟩) hI dX1_swap_25
        · exact absurd q0 (by decide)
      · skip
        refine lv_if_ne (tgt := 23) hx hb dX1_swap_13 (by decide) (fun q0 => ?_) (fun q0 => ?_)
        · exact absurd rfl q0
        · skip
          refine lv_iload_n hx hb dX1_swap_16 rfl (lv_at hl 3 rfl) ?_
          refine ob_calls hX (M_badBlock l z) (cwX1_badBlock hts rfl rfl ⟨by decide, by decide⟩) rfl hl.1 (rest := []) (by decide) rfl dX1_swap_17 (fun v0 hp => ?_)
          rcases hp with ⟨rfl, hout⟩ | ⟨rfl, b, hb16, rfl⟩
          · skip
            refine lv_if_eq (tgt := 26) hx hb dX1_swap_20 (by decide) (fun q0 => ?_) (fun q0 => ?_)
            · exact absurd q0 (by decide)
            · skip
              refine lv_bipush (v := (-2)) hx hb dX1_swap_23 (by decide) ?_
              exact hret _ _ _ _ _ _ (Or.inr ⟨n, hn, rfl, Or.inr ⟨a, ha16, rfl, Or.inl ⟨hout, rfl, rfl⟩⟩⟩) hI dX1_swap_25
          · skip
            refine lv_if_eq (tgt := 26) hx hb dX1_swap_20 (by decide) (fun q0 => ?_) (fun q0 => ?_)
            · skip
              refine lv_aload_n hx hb dX1_swap_26 rfl (lv_at hl 0 rfl) ?_
              refine fs_g1 hX hI dX1_swap_27 ?_
              refine lv_iload_n hx hb dX1_swap_30 rfl (lv_at hl 1 rfl) ?_
              refine ob_zld hX hI 1 rfl (n) (by omega) (by decide) dX1_swap_31 ?_
              refine lv_if_ne (tgt := 38) hx hb dX1_swap_32 (by decide) (fun qd => ?_) (fun qd => ?_)
              · skip
                refine lv_aload_n hx hb dX1_swap_38 rfl (lv_at hl 0 rfl) ?_
                refine lv_iload_n hx hb dX1_swap_39 rfl (lv_at hl 1 rfl) ?_
                refine lv_iload_n hx hb dX1_swap_40 rfl (lv_at hl 2 rfl) ?_
                refine ob_calli hX hAA hI rfl (M_readBlock l D h d R n a hn ha16 σ U K hV) (cwX1_readBlock hts rfl rfl ⟨by decide, by decide⟩) rfl hl.1 (rest := []) (by simp [Value.category]) rfl dX1_swap_41 (fun v1 σ1 H locs hp hI => ?_)
                obtain ⟨U1, K1, hV1, hS1, hv1, h11⟩ := hp
                refine lv_istore (lv' := [(4, .int v1), (0, .ref (h 0)), (1, .int (nI n)), (2, .int (nI a)), (3, .int (nI b))]) hx hb dX1_swap_44 hl (by decide) rfl (fun ls hl => ?_)
                refine lv_aload_n hx hb dX1_swap_46 rfl (lv_at hl 1 rfl) ?_
                refine lv_iload_n hx hb dX1_swap_47 rfl (lv_at hl 2 rfl) ?_
                refine lv_iload_n hx hb dX1_swap_48 rfl (lv_at hl 4 rfl) ?_
                refine ob_calli hX hAA hI rfl (M_readBlock l D h d R n b hn hb16 σ1 U1 K1 hV1) (cwX1_readBlock hts rfl rfl ⟨by decide, by decide⟩) rfl hl.1 (rest := []) (by simp [Value.category]) rfl dX1_swap_49 (fun v2 σ2 H locs hp hI => ?_)
                obtain ⟨U2, K2, hV2, hS2, hv2, h12⟩ := hp
                refine lv_istore (lv' := [(5, .int v2), (4, .int v1), (0, .ref (h 0)), (1, .int (nI n)), (2, .int (nI a)), (3, .int (nI b))]) hx hb dX1_swap_52 hl (by decide) rfl (fun ls hl => ?_)
                refine lv_aload_n hx hb dX1_swap_54 rfl (lv_at hl 2 rfl) ?_
                refine lv_iload_n hx hb dX1_swap_55 rfl (lv_at hl 3 rfl) ?_
                refine lv_iload_n hx hb dX1_swap_56 rfl (lv_at hl 4 rfl) ?_
                refine lv_iload hx hb dX1_swap_57 (lv_at hl 0 rfl) ?_
                refine ob_callv hX hAA hI rfl (M_writeBlock l D h d R n a hn ha16 v2 σ2 U2 K2 hV2) (cwX1_writeBlock hts rfl rfl ⟨by decide, by decide⟩) rfl hl.1 (rest := []) (by simp [Value.category]) rfl dX1_swap_59 (fun σ3 H locs hp hI => ?_)
                obtain ⟨U3, K3, hV3, hS3, h13⟩ := hp
                refine lv_aload_n hx hb dX1_swap_62 rfl (lv_at hl 2 rfl) ?_
                refine lv_iload_n hx hb dX1_swap_63 rfl (lv_at hl 3 rfl) ?_
                refine lv_iload_n hx hb dX1_swap_64 rfl (lv_at hl 5 rfl) ?_
                refine lv_iload hx hb dX1_swap_65 (lv_at hl 1 rfl) ?_
                refine ob_callv hX hAA hI rfl (M_writeBlock l D h d R n b hn hb16 v1 σ3 _ K3 hV3) (cwX1_writeBlock hts rfl rfl ⟨by decide, by decide⟩) rfl hl.1 (rest := []) (by simp [Value.category]) rfl dX1_swap_67 (fun σ4 H locs hp hI => ?_)
                obtain ⟨U4, K4, hV4, hS4, h14⟩ := hp
                obtain ⟨⟨J, C, hA, hs⟩, h7, hx2, hlk⟩ := hV4
                have hV4 : fsInv σ4 R (wr_ U4 n b v1) K4 := ⟨⟨J, C, hA, hs⟩, h7, hx2, hlk⟩
                have hR := hA.2.1
                refine lv_aload_n hx hb dX1_swap_70 rfl (lv_at hl 2 rfl) ?_
                refine lv_iload_n hx hb dX1_swap_71 rfl (lv_at hl 3 rfl) ?_
                refine ob_calli hX hAA hI rfl (M_unsafeCount l D h d R n hR hn σ4 (J n) (C n) (hA.2.2 n hn).1 (hA.2.2 n hn).2) (cwX1_unsafeCount hts rfl rfl ⟨by decide, by decide⟩) rfl hl.1 (rest := []) (by simp [Value.category]) rfl dX1_swap_72 (fun v5 σz H locs hp hI => ?_)
                obtain ⟨hz, v5v⟩ := hp
                rw [hz] at hI
                rw [jn_U (U := (wr_ U4 n b v1)) (fun b hb => (hs n hn b hb).1)] at v5v
                exact hret _ _ _ _ _ _ (Or.inr ⟨n, hn, rfl, Or.inr ⟨a, ha16, rfl, Or.inr ⟨b, hb16, rfl, Or.inr ⟨qd, U1, σ1 2, U2, σ2 2, U3, σ3 2, U4, K4, v1, v2, hS1, hv1, hS2, hv2, hS3, hS4, hV4, v5v, h14.trans (h13.trans (h12.trans h11))⟩⟩⟩⟩) hI dX1_swap_75
              · skip
                refine lv_bipush (v := (-3)) hx hb dX1_swap_35 (by decide) ?_
                exact hret _ _ _ _ _ _ (Or.inr ⟨n, hn, rfl, Or.inr ⟨a, ha16, rfl, Or.inr ⟨b, hb16, rfl, Or.inl ⟨qd, rfl, rfl⟩⟩⟩⟩) hI dX1_swap_37
            · exact absurd rfl q0
    · exact absurd rfl q0
set_option maxHeartbeats 4000000 in
/-- sync -/
theorem M_sync (l : Launch) (D : va_G) (h : Nat → Nat) (d : Nat → ClassId) (R : Nat) (x : Int32) (σ : FS) (U : Nat → Nat → Option Int32) (K : Nat → Nat → Bool) (hV : fsInv σ R U K) : ob_Mi l yX1_sync cX1_sync 2 (some .int) rmX1_sync D 0 [.int (nI R)] fsKs h d σ [.int x] (fun v σ1 => gX 3 x (v = -1 ∧ σ1 = σ) (fun n => (σ 1 n = 0 ∧ v = -3 ∧ σ1 = σ) ∨ (σ 1 n ≠ 0 ∧ pY R σ U n v σ1))) := by
  refine ob_ofWi (C := RX1) (by decide) rfl (Nat.le_of_ble_eq_true rfl) ?_
  intro p e s m args below meth c A Q ls hX hAA hI hret hl
  have hx := hX.1.1
  have hb := hX.1.2.1
  have hts := hX.1.2.2.2.2
  have hl : lv_has ls 2 [(0, .ref (h 0)), (1, .int x)] := hl
  refine lv_iload_n hx hb dX1_sync_0 rfl (lv_at hl 1 rfl) ?_
  refine ob_calls hX (M_badNode l x) (cwX1_badNode hts rfl rfl ⟨by decide, by decide⟩) rfl hl.1 (rest := []) (by decide) rfl dX1_sync_1 (fun v0 hp => ?_)
  rcases hp with ⟨rfl, hout⟩ | ⟨rfl, n, hn, rfl⟩
  · skip
    refine lv_if_eq (tgt := 9) hx hb dX1_sync_4 (by decide) (fun q0 => ?_) (fun q0 => ?_)
    · exact absurd q0 (by decide)
    · skip
      refine lv_iconst (v := (-1)) hx hb dX1_sync_7 (by decide) ?_
      exact hret _ _ _ _ _ _ (Or.inl ⟨hout, rfl, rfl⟩) hI dX1_sync_8
  · skip
    refine lv_if_eq (tgt := 9) hx hb dX1_sync_4 (by decide) (fun q0 => ?_) (fun q0 => ?_)
    · skip
      refine lv_aload_n hx hb dX1_sync_9 rfl (lv_at hl 0 rfl) ?_
      refine fs_g1 hX hI dX1_sync_10 ?_
      refine lv_iload_n hx hb dX1_sync_13 rfl (lv_at hl 1 rfl) ?_
      refine ob_zld hX hI 1 rfl (n) (by omega) (by decide) dX1_sync_14 ?_
      refine lv_if_ne (tgt := 21) hx hb dX1_sync_15 (by decide) (fun qd => ?_) (fun qd => ?_)
      · skip
        obtain ⟨⟨J, C, hA, hs⟩, h7, hx2, hlk⟩ := hV
        have hV : fsInv σ R U K := ⟨⟨J, C, hA, hs⟩, h7, hx2, hlk⟩
        have hR := hA.2.1
        refine lv_aload_n hx hb dX1_sync_21 rfl (lv_at hl 0 rfl) ?_
        refine lv_iload_n hx hb dX1_sync_22 rfl (lv_at hl 1 rfl) ?_
        refine ob_calli hX hAA hI rfl (M_makeSafe l D h d R n hR hn σ (J n) (C n) (hA.2.2 n hn).1 (hA.2.2 n hn).2) (cwX1_makeSafe hts rfl rfl ⟨by decide, by decide⟩) rfl hl.1 (rest := []) (by simp [Value.category]) rfl dX1_sync_23 (fun v2 τ H locs hp hI => ?_)
        obtain ⟨hv2, hJ1, hC1, hh, h71, h11, h81, ho⟩ := hp
        rw [jn_U (U := U) (fun b hb => (hs n hn b hb).1)] at hv2
        have hh1 : ∀ c, c < 16 → τ 2 c = (U n c).getD (σ 2 c) := fun c hc => by rw [(hs n hn c hc).1]; exact hh c hc
        exact hret _ _ _ _ _ _ (Or.inr ⟨n, hn, rfl, Or.inr ⟨qd, ⟨K, fsInv_safe hV hn hs hJ1 hC1 hh1 h71 h81 ho⟩, hh1, hv2, h11⟩⟩) hI dX1_sync_26
      · skip
        refine lv_bipush (v := (-3)) hx hb dX1_sync_18 (by decide) ?_
        exact hret _ _ _ _ _ _ (Or.inr ⟨n, hn, rfl, Or.inl ⟨qd, rfl, rfl⟩⟩) hI dX1_sync_20
    · exact absurd rfl q0
set_option maxHeartbeats 4000000 in
/-- crash -/
theorem M_crash (l : Launch) (D : va_G) (h : Nat → Nat) (d : Nat → ClassId) (R : Nat) (x : Int32) (σ : FS) (U : Nat → Nat → Option Int32) (K : Nat → Nat → Bool) (hV : fsInv σ R U K) : ob_Mi l yX1_crash cX1_crash 3 (some .int) rmX1_crash D 0 [.int (nI R)] fsKs h d σ [.int x] (fun v σ1 => gX 3 x (v = -1 ∧ σ1 = σ) (fun n => (σ 1 n = 0 ∧ v = -3 ∧ σ1 = σ) ∨ (σ 1 n ≠ 0 ∧ pC R σ U n 0 v σ1))) := by
  refine ob_ofWi (C := RX1) (by decide) rfl (Nat.le_of_ble_eq_true rfl) ?_
  intro p e s m args below meth c A Q ls hX hAA hI hret hl
  have hx := hX.1.1
  have hb := hX.1.2.1
  have hts := hX.1.2.2.2.2
  have hl : lv_has ls 3 [(0, .ref (h 0)), (1, .int x)] := hl
  refine lv_iload_n hx hb dX1_crash_0 rfl (lv_at hl 1 rfl) ?_
  refine ob_calls hX (M_badNode l x) (cwX1_badNode hts rfl rfl ⟨by decide, by decide⟩) rfl hl.1 (rest := []) (by decide) rfl dX1_crash_1 (fun v0 hp => ?_)
  rcases hp with ⟨rfl, hout⟩ | ⟨rfl, n, hn, rfl⟩
  · skip
    refine lv_if_eq (tgt := 9) hx hb dX1_crash_4 (by decide) (fun q0 => ?_) (fun q0 => ?_)
    · exact absurd q0 (by decide)
    · skip
      refine lv_iconst (v := (-1)) hx hb dX1_crash_7 (by decide) ?_
      exact hret _ _ _ _ _ _ (Or.inl ⟨hout, rfl, rfl⟩) hI dX1_crash_8
  · skip
    refine lv_if_eq (tgt := 9) hx hb dX1_crash_4 (by decide) (fun q0 => ?_) (fun q0 => ?_)
    · skip
      refine lv_aload_n hx hb dX1_crash_9 rfl (lv_at hl 0 rfl) ?_
      refine fs_g1 hX hI dX1_crash_10 ?_
      refine lv_iload_n hx hb dX1_crash_13 rfl (lv_at hl 1 rfl) ?_
      refine ob_zld hX hI 1 rfl (n) (by omega) (by decide) dX1_crash_14 ?_
      refine lv_if_ne (tgt := 21) hx hb dX1_crash_15 (by decide) (fun qd => ?_) (fun qd => ?_)
      · skip
        obtain ⟨⟨J, C, hA, hs⟩, h7, hx2, hlk⟩ := hV
        have hV : fsInv σ R U K := ⟨⟨J, C, hA, hs⟩, h7, hx2, hlk⟩
        have hR := hA.2.1
        refine lv_aload_n hx hb dX1_crash_21 rfl (lv_at hl 0 rfl) ?_
        refine lv_iload_n hx hb dX1_crash_22 rfl (lv_at hl 1 rfl) ?_
        refine ob_calli hX hAA hI rfl (M_unsafeCount l D h d R n hR hn σ (J n) (C n) (hA.2.2 n hn).1 (hA.2.2 n hn).2) (cwX1_unsafeCount hts rfl rfl ⟨by decide, by decide⟩) rfl hl.1 (rest := []) (by simp [Value.category]) rfl dX1_crash_23 (fun v2 σz H locs hp hI => ?_)
        obtain ⟨hz, v2v⟩ := hp
        rw [hz] at hI
        rw [jn_U (U := U) (fun b hb => (hs n hn b hb).1)] at v2v
        refine lv_istore_n (lv' := [(2, .int v2), (0, .ref (h 0)), (1, .int (nI n))]) hx hb dX1_crash_26 rfl hl (by decide) rfl (fun ls hl => ?_)
        refine lv_aload_n hx hb dX1_crash_27 rfl (lv_at hl 1 rfl) ?_
        refine lv_iload_n hx hb dX1_crash_28 rfl (lv_at hl 2 rfl) ?_
        refine ob_callv hX hAA hI rfl (M_die l D h d R n hR hn σ (J n) (C n) (hA.2.2 n hn).1 (hA.2.2 n hn).2) (cwX1_die hts rfl rfl ⟨by decide, by decide⟩) rfl hl.1 (rest := []) (by simp [Value.category]) rfl dX1_crash_29 (fun τ H locs hp hI => ?_)
        obtain ⟨hJ1, hC1, hh, h71, h11, h81, ho⟩ := hp
        have hh1 : ∀ b, b < 16 → τ 2 b = σ 2 b := by
          rcases hh with ⟨⟨z, -⟩, -⟩ | ⟨-, z⟩
          · exact absurd (h7 n hn) z
          · exact z
        have h7b : ∀ m, m < 3 → τ 7 m = 0 := by
          intro m hm
          rw [h71]
          by_cases e : m = n
          · simp [upd, e]
          · simp [upd, e, h7 m hm]
        refine lv_iload_n hx hb dX1_crash_32 rfl (lv_at hl 0 rfl) ?_
        exact hret _ _ _ _ _ _ (Or.inr ⟨n, hn, rfl, Or.inr ⟨qd, ⟨_, fsInv_die hV hn hJ1 hC1 (Or.inr hh1) h7b (fun a _ hne b hb => h81 a hne b hb) ho⟩, fun z => absurd rfl z, fun _ => hh1, v2v, h11⟩⟩) hI dX1_crash_33
      · skip
        refine lv_bipush (v := (-3)) hx hb dX1_crash_18 (by decide) ?_
        exact hret _ _ _ _ _ _ (Or.inr ⟨n, hn, rfl, Or.inl ⟨qd, rfl, rfl⟩⟩) hI dX1_crash_20
    · exact absurd rfl q0
set_option maxHeartbeats 4000000 in
/-- crash in the middle of making safe -/
theorem M_crashInSync (l : Launch) (D : va_G) (h : Nat → Nat) (d : Nat → ClassId) (R : Nat) (x lt : Int32) (σ : FS) (U : Nat → Nat → Option Int32) (K : Nat → Nat → Bool) (hV : fsInv σ R U K) : ob_Mi l yX1_crashInSync cX1_crashInSync 4 (some .int) rmX1_crashInSync D 0 [.int (nI R)] fsKs h d σ [.int x, .int lt] (fun v σ1 => gX 3 x (v = -1 ∧ σ1 = σ) (fun n => (σ 1 n = 0 ∧ v = -3 ∧ σ1 = σ) ∨ (σ 1 n ≠ 0 ∧ pC R σ U n lt v σ1))) := by
  refine ob_ofWi (C := RX1) (by decide) rfl (Nat.le_of_ble_eq_true rfl) ?_
  intro p e s m args below meth c A Q ls hX hAA hI hret hl
  have hx := hX.1.1
  have hb := hX.1.2.1
  have hts := hX.1.2.2.2.2
  have hl : lv_has ls 4 [(0, .ref (h 0)), (1, .int x), (2, .int lt)] := hl
  refine lv_iload_n hx hb dX1_crashInSync_0 rfl (lv_at hl 1 rfl) ?_
  refine ob_calls hX (M_badNode l x) (cwX1_badNode hts rfl rfl ⟨by decide, by decide⟩) rfl hl.1 (rest := []) (by decide) rfl dX1_crashInSync_1 (fun v0 hp => ?_)
  rcases hp with ⟨rfl, hout⟩ | ⟨rfl, n, hn, rfl⟩
  · skip
    refine lv_if_eq (tgt := 9) hx hb dX1_crashInSync_4 (by decide) (fun q0 => ?_) (fun q0 => ?_)
    · exact absurd q0 (by decide)
    · skip
      refine lv_iconst (v := (-1)) hx hb dX1_crashInSync_7 (by decide) ?_
      exact hret _ _ _ _ _ _ (Or.inl ⟨hout, rfl, rfl⟩) hI dX1_crashInSync_8
  · skip
    refine lv_if_eq (tgt := 9) hx hb dX1_crashInSync_4 (by decide) (fun q0 => ?_) (fun q0 => ?_)
    · skip
      refine lv_aload_n hx hb dX1_crashInSync_9 rfl (lv_at hl 0 rfl) ?_
      refine fs_g1 hX hI dX1_crashInSync_10 ?_
      refine lv_iload_n hx hb dX1_crashInSync_13 rfl (lv_at hl 1 rfl) ?_
      refine ob_zld hX hI 1 rfl (n) (by omega) (by decide) dX1_crashInSync_14 ?_
      refine lv_if_ne (tgt := 21) hx hb dX1_crashInSync_15 (by decide) (fun qd => ?_) (fun qd => ?_)
      · skip
        obtain ⟨⟨J, C, hA, hs⟩, h7, hx2, hlk⟩ := hV
        have hV : fsInv σ R U K := ⟨⟨J, C, hA, hs⟩, h7, hx2, hlk⟩
        have hR := hA.2.1
        refine lv_aload_n hx hb dX1_crashInSync_21 rfl (lv_at hl 0 rfl) ?_
        refine lv_iload_n hx hb dX1_crashInSync_22 rfl (lv_at hl 1 rfl) ?_
        refine ob_calli hX hAA hI rfl (M_unsafeCount l D h d R n hR hn σ (J n) (C n) (hA.2.2 n hn).1 (hA.2.2 n hn).2) (cwX1_unsafeCount hts rfl rfl ⟨by decide, by decide⟩) rfl hl.1 (rest := []) (by simp [Value.category]) rfl dX1_crashInSync_23 (fun v2 σz H locs hp hI => ?_)
        obtain ⟨hz, v2v⟩ := hp
        rw [hz] at hI
        rw [jn_U (U := U) (fun b hb => (hs n hn b hb).1)] at v2v
        refine lv_istore_n (lv' := [(3, .int v2), (0, .ref (h 0)), (1, .int (nI n)), (2, .int lt)]) hx hb dX1_crashInSync_26 rfl hl (by decide) rfl (fun ls hl => ?_)
        refine lv_aload_n hx hb dX1_crashInSync_27 rfl (lv_at hl 1 rfl) ?_
        refine lv_iload_n hx hb dX1_crashInSync_28 rfl (lv_at hl 2 rfl) ?_
        refine ob_callv hX hAA hI rfl (M_fillJournal l D h d R n hR hn σ (J n) (C n) (hA.2.2 n hn).1 (hA.2.2 n hn).2) (cwX1_fillJournal hts rfl rfl ⟨by decide, by decide⟩) rfl hl.1 (rest := []) (by simp [Value.category]) rfl dX1_crashInSync_29 (fun τ H locs hp hI => ?_)
        obtain ⟨hJ1, hC1, hfr, ho⟩ := hp
        have t7 : τ 7 = σ 7 := hfr 7 (by decide) (by decide) (by decide) (by decide)
        have t2 : τ 2 = σ 2 := hfr 2 (by decide) (by decide) (by decide) (by decide)
        have t1 : τ 1 = σ 1 := hfr 1 (by decide) (by decide) (by decide) (by decide)
        have t8 : τ 8 = σ 8 := hfr 8 (by decide) (by decide) (by decide) (by decide)
        refine lv_iload_n hx hb dX1_crashInSync_32 rfl (lv_at hl 3 rfl) ?_
        refine lv_if_eq (tgt := 41) hx hb dX1_crashInSync_33 (by decide) (fun q => ?_) (fun q => ?_)
        · skip
          refine lv_aload_n hx hb dX1_crashInSync_41 rfl (lv_at hl 1 rfl) ?_
          refine lv_iload_n hx hb dX1_crashInSync_42 rfl (lv_at hl 2 rfl) ?_
          refine ob_callv hX hAA hI rfl (M_die l D h d R n hR hn τ _ _ hJ1 hC1) (cwX1_die hts rfl rfl ⟨by decide, by decide⟩) rfl hl.1 (rest := []) (by simp [Value.category]) rfl dX1_crashInSync_43 (fun υ H locs hp hI => ?_)
          obtain ⟨hJ2, hC2, hh, h71, h11, h81, ho2⟩ := hp
          have hh1 : ∀ b, b < 16 → υ 2 b = σ 2 b := by
            rcases hh with ⟨⟨z, -⟩, -⟩ | ⟨-, z⟩
            · exact absurd (by rw [t7]; exact h7 n hn) z
            · intro b hb; rw [z b hb, t2]
          have h7b : ∀ m, m < 3 → υ 7 m = 0 := by
            intro m hm
            rw [h71, t7]
            by_cases e : m = n
            · simp [upd, e]
            · simp [upd, e, h7 m hm]
          refine lv_iload_n hx hb dX1_crashInSync_46 rfl (lv_at hl 0 rfl) ?_
          exact hret _ _ _ _ _ _ (Or.inr ⟨n, hn, rfl, Or.inr ⟨qd, ⟨_, fsInv_die hV hn hJ2 hC2 (Or.inr hh1) h7b (fun a _ hne b hb => by rw [h81 a hne b hb, t8]) (oth_tr ho ho2)⟩, fun z => absurd q z, fun _ => hh1, v2v, by rw [h11, t1]⟩⟩) hI dX1_crashInSync_47
        · skip
          refine lv_aload_n hx hb dX1_crashInSync_36 rfl (lv_at hl 1 rfl) ?_
          refine lv_iload_n hx hb dX1_crashInSync_37 rfl (lv_at hl 2 rfl) ?_
          refine ob_callv hX hAA hI rfl (M_markJournal l D h d R n hn _ (jn_le _) τ hJ1.1) (cwX1_markJournal hts rfl rfl ⟨by decide, by decide⟩) rfl hl.1 (rest := []) (by simp [Value.category]) rfl dX1_crashInSync_38 (fun σ2 H locs hp hI => ?_)
          subst hp
          have hk : ∀ k, k ≠ 6 → k ≠ 7 → (st_ (st_ τ 6 n (fsS τ n)) 7 n 1) k = τ k := fun k k6 k7 => by rw [st_o _ _ _ k7, st_o _ _ _ k6]
          have hJ2 : fsJ (st_ (st_ τ 6 n (fsS τ n)) 7 n 1) n (fun b => vw_ (J n b) (C n b)) := fsJ_cong hJ1 (by rw [hk 3 (by decide) (by decide)]) (fun j _ => by rw [hk 4 (by decide) (by decide)]) (fun j _ => by rw [hk 5 (by decide) (by decide)])
          have hC2 : fsC (st_ (st_ τ 6 n (fsS τ n)) 7 n 1) R n (cl_ (C n)) := fsC_cong hC1 hR (by rw [hk 12 (by decide) (by decide)]) (fun j _ => by rw [hk 9 (by decide) (by decide)]) (fun j _ => by rw [hk 10 (by decide) (by decide)]) (fun j _ => by rw [hk 11 (by decide) (by decide)])
          refine lv_aload_n hx hb dX1_crashInSync_41 rfl (lv_at hl 1 rfl) ?_
          refine lv_iload_n hx hb dX1_crashInSync_42 rfl (lv_at hl 2 rfl) ?_
          refine ob_callv hX hAA hI rfl (M_die l D h d R n hR hn _ _ _ hJ2 hC2) (cwX1_die hts rfl rfl ⟨by decide, by decide⟩) rfl hl.1 (rest := []) (by simp [Value.category]) rfl dX1_crashInSync_43 (fun υ H locs hp hI => ?_)
          obtain ⟨hJ3, hC3, hh, h71, h11, h81, ho2⟩ := hp
          have hh1 : ∀ b, b < 16 → υ 2 b = (U n b).getD (σ 2 b) := by
            rcases hh with ⟨-, z⟩ | ⟨z, -⟩
            · intro b hb; rw [z b hb, hk 2 (by decide) (by decide), t2, (hs n hn b hb).1]
            · refine absurd ⟨?_, ?_⟩ z
              · rw [st_at]; decide
              · rw [fsS_cong n (hk 3 (by decide) (by decide)) (hk 4 (by decide) (by decide)) (hk 5 (by decide) (by decide)), st_ne _ _ (Or.inl (by decide)), st_at]
          have h7b : ∀ m, m < 3 → υ 7 m = 0 := by
            intro m hm
            rw [h71]
            by_cases e : m = n
            · simp [upd, e]
            · have : (st_ (st_ τ 6 n (fsS τ n)) 7 n 1) 7 m = 0 := by rw [st_ne _ _ (Or.inr e), st_ne _ _ (Or.inl (by decide)), t7]; exact h7 m hm
              simp [upd, e, this]
          have ho3 : oth_ n σ υ := oth_tr ho (oth_tr (oth_tr (oth_any τ (fsS τ n) (k := 6) (j := n) (by omega)) (oth_any _ 1 (k := 7) (j := n) (by omega))) ho2)
          refine lv_iload_n hx hb dX1_crashInSync_46 rfl (lv_at hl 0 rfl) ?_
          exact hret _ _ _ _ _ _ (Or.inr ⟨n, hn, rfl, Or.inr ⟨qd, ⟨_, fsInv_die hV hn hJ3 hC3 (Or.inl hh1) h7b (fun a _ hne b hb => by rw [h81 a hne b hb, hk 8 (by decide) (by decide), t8]) ho3⟩, fun _ => hh1, fun z => absurd z q, v2v, by rw [h11, hk 1 (by decide) (by decide), t1]⟩⟩) hI dX1_crashInSync_47
      · skip
        refine lv_bipush (v := (-3)) hx hb dX1_crashInSync_18 (by decide) ?_
        exact hret _ _ _ _ _ _ (Or.inr ⟨n, hn, rfl, Or.inl ⟨qd, rfl, rfl⟩⟩) hI dX1_crashInSync_20
    · exact absurd rfl q0
end
section
/-! CONTRACTS of SharedDiskFs: restart, powerCut, ownerOf, content, safe, owner, the count, up -/
set_option maxRecDepth 100000
set_option maxHeartbeats 4000000 in
/-- restart -/
theorem M_restart (l : Launch) (D : va_G) (h : Nat → Nat) (d : Nat → ClassId) (R : Nat) (x : Int32) (σ : FS) : ob_Mi l yX1_restart cX1_restart 3 (some .int) rmX1_restart D 0 [.int (nI R)] fsKs h d σ [.int x] (fun v σ1 => gX 3 x (v = -1 ∧ σ1 = σ) (fun n => ((σ 1 n = 0 ∧ v = 1) ∨ (σ 1 n ≠ 0 ∧ v = 0)) ∧ σ1 = st_ σ 1 n 1)) := by
  refine ob_ofWi (C := RX1) (by decide) rfl (Nat.le_of_ble_eq_true rfl) ?_
  intro p e s m args below meth c A Q ls hX hAA hI hret hl
  have hx := hX.1.1
  have hb := hX.1.2.1
  have hts := hX.1.2.2.2.2
  have hl : lv_has ls 3 [(0, .ref (h 0)), (1, .int x)] := hl
  refine lv_iload_n hx hb dX1_restart_0 rfl (lv_at hl 1 rfl) ?_
  refine ob_calls hX (M_badNode l x) (cwX1_badNode hts rfl rfl ⟨by decide, by decide⟩) rfl hl.1 (rest := []) (by decide) rfl dX1_restart_1 (fun v0 hp => ?_)
  rcases hp with ⟨rfl, hout⟩ | ⟨rfl, n, hn, rfl⟩
  · skip
    refine lv_if_eq (tgt := 9) hx hb dX1_restart_4 (by decide) (fun q0 => ?_) (fun q0 => ?_)
    · exact absurd q0 (by decide)
    · skip
      refine lv_iconst (v := (-1)) hx hb dX1_restart_7 (by decide) ?_
      exact hret _ _ _ _ _ _ (Or.inl ⟨hout, rfl, rfl⟩) hI dX1_restart_8
  · skip
    refine lv_if_eq (tgt := 9) hx hb dX1_restart_4 (by decide) (fun q0 => ?_) (fun q0 => ?_)
    · skip
      refine lv_aload_n hx hb dX1_restart_9 rfl (lv_at hl 0 rfl) ?_
      refine fs_g1 hX hI dX1_restart_10 ?_
      refine lv_iload_n hx hb dX1_restart_13 rfl (lv_at hl 1 rfl) ?_
      refine ob_zld hX hI 1 rfl (n) (by omega) (by decide) dX1_restart_14 ?_
      refine lv_if_eq (tgt := 22) hx hb dX1_restart_15 (by decide) (fun q => ?_) (fun q => ?_)
      · skip
        refine lv_iconst (v := 1) hx hb dX1_restart_22 (by decide) ?_
        refine lv_istore_n (lv' := [(2, .int 1), (0, .ref (h 0)), (1, .int (nI n))]) hx hb dX1_restart_23 rfl hl (by decide) rfl (fun ls hl => ?_)
        refine lv_aload_n hx hb dX1_restart_24 rfl (lv_at hl 1 rfl) ?_
        refine fs_g1 hX hI dX1_restart_25 ?_
        refine lv_iload_n hx hb dX1_restart_28 rfl (lv_at hl 2 rfl) ?_
        refine lv_iconst (v := 1) hx hb dX1_restart_29 (by decide) ?_
        refine ob_zst hX hI 1 rfl (n) (by omega) (by decide) (by decide) dX1_restart_30 (fun H locs hI => ?_)
        refine lv_iload_n hx hb dX1_restart_31 rfl (lv_at hl 0 rfl) ?_
        exact hret _ _ _ _ _ _ (Or.inr ⟨n, hn, rfl, Or.inl ⟨q, rfl⟩, rfl⟩) hI dX1_restart_32
      · skip
        refine lv_iconst (v := 0) hx hb dX1_restart_18 (by decide) ?_
        refine lv_goto (tgt := 23) hx hb dX1_restart_19 (by decide) ?_
        refine lv_istore_n (lv' := [(2, .int 0), (0, .ref (h 0)), (1, .int (nI n))]) hx hb dX1_restart_23 rfl hl (by decide) rfl (fun ls hl => ?_)
        refine lv_aload_n hx hb dX1_restart_24 rfl (lv_at hl 1 rfl) ?_
        refine fs_g1 hX hI dX1_restart_25 ?_
        refine lv_iload_n hx hb dX1_restart_28 rfl (lv_at hl 2 rfl) ?_
        refine lv_iconst (v := 1) hx hb dX1_restart_29 (by decide) ?_
        refine ob_zst hX hI 1 rfl (n) (by omega) (by decide) (by decide) dX1_restart_30 (fun H locs hI => ?_)
        refine lv_iload_n hx hb dX1_restart_31 rfl (lv_at hl 0 rfl) ?_
        exact hret _ _ _ _ _ _ (Or.inr ⟨n, hn, rfl, Or.inr ⟨q, rfl⟩, rfl⟩) hI dX1_restart_32
    · exact absurd rfl q0
set_option maxHeartbeats 4000000 in
/-- all nodes die and rise -/
theorem M_powerCut (l : Launch) (D : va_G) (h : Nat → Nat) (d : Nat → ClassId) (R : Nat) (σ : FS) (U : Nat → Nat → Option Int32) (K : Nat → Nat → Bool) (hV : fsInv σ R U K) : ob_Mi l yX1_powerCut cX1_powerCut 3 (some .int) rmX1_powerCut D 0 [.int (nI R)] fsKs h d σ [] (fun v σ1 => (∃ (U1 : Nat → Nat → Option Int32) (K1 : Nat → Nat → Bool), fsInv σ1 R U1 K1 ∧ ∀ n, n < 3 → ∀ b, U1 n b = none) ∧ (∀ b, b < 16 → σ1 2 b = σ 2 b) ∧ (∀ n, n < 3 → σ1 1 n = 1) ∧ v = nI (sm_ U 3)) := by
  refine ob_ofWi (C := RX1) (by decide) rfl (Nat.le_of_ble_eq_true rfl) ?_
  intro p e s m args below meth c A Q ls hX hAA hI hret hl
  have hx := hX.1.1
  have hb := hX.1.2.1
  have hts := hX.1.2.2.2.2
  have hl : lv_has ls 3 [(0, .ref (h 0))] := hl
  refine lv_iconst (v := nI 0) hx hb dX1_powerCut_0 (by decide) ?_
  refine lv_istore_n (lv' := [(1, .int (nI 0)), (0, .ref (h 0))]) hx hb dX1_powerCut_1 rfl hl (by decide) rfl (fun ls hl => ?_)
  refine lv_iconst (v := nI 0) hx hb dX1_powerCut_2 (by decide) ?_
  refine lv_istore_n (lv' := [(2, .int (nI 0)), (1, .int (nI 0)), (0, .ref (h 0))]) hx hb dX1_powerCut_3 rfl hl (by decide) rfl (fun ls hl => ?_)
  have loop2 : ∀ (k i a : Nat) (τ : FS) (U1 : Nat → Nat → Option Int32) (K1 : Nat → Nat → Bool) (H : Heap) (locs : List Loc) (ls : Array Slot), 3 < i + k → i ≤ 3 → fsInv τ R U1 K1 → (∀ n, n < 3 → ∀ b, U1 n b = none) → (∀ b, b < 16 → τ 2 b = σ 2 b) → (∀ j, j < i → τ 1 j = 1) → a = sm_ U 3 → ob_I D 0 [.int (nI R)] fsKs h d τ A s.heap H locs → lv_has ls 3 [(2, .int (nI i)), (1, .int (nI a)), (0, .ref (h 0))] → W p l e rmX1_powerCut s m args below meth c H locs 0 0 Q (F0 m 30 ls []) := by
    intro k
    induction k with
    | zero => intro i a τ U1 K1 H locs ls h1 h2; exact absurd h1 (by omega)
    | succ k ih =>
      intro i a τ U1 K1 H locs ls hk hi hV1 hno hh h1 hav hI hl
      refine lv_iload_n hx hb dX1_powerCut_30 rfl (lv_at hl 0 rfl) ?_
      refine lv_iconst (v := nI 3) hx hb dX1_powerCut_31 (by decide) ?_
      refine n_icmp_ge (tgt := 48) hx hb dX1_powerCut_32 (by decide) (by omega) (by omega) (fun q => ?_) (fun q => ?_)
      · skip
        refine lv_iload_n hx hb dX1_powerCut_48 rfl (lv_at hl 1 rfl) ?_
        exact hret _ _ _ _ _ _ ⟨⟨U1, K1, hV1, hno⟩, hh, fun n hn => h1 n (by omega), by rw [hav]⟩ hI dX1_powerCut_49
      · skip
        refine lv_aload_n hx hb dX1_powerCut_35 rfl (lv_at hl 2 rfl) ?_
        refine fs_g1 hX hI dX1_powerCut_36 ?_
        refine lv_iload_n hx hb dX1_powerCut_39 rfl (lv_at hl 0 rfl) ?_
        refine lv_iconst (v := 1) hx hb dX1_powerCut_40 (by decide) ?_
        refine ob_zst hX hI 1 rfl (i) (by omega) (by decide) (by decide) dX1_powerCut_41 (fun H locs hI => ?_)
        refine n_iinc (k := 0) (lv' := [(2, .int (nI (i + 1))), (1, .int (nI a)), (0, .ref (h 0))]) hx hb dX1_powerCut_42 hl rfl (by decide) rfl (fun ls hl => ?_)
        refine lv_goto (tgt := 30) hx hb dX1_powerCut_45 (by decide) ?_
        refine ih (i + 1) a _ U1 K1 H locs ls (by omega) (by omega) (fsInv_frame hV1 (fun k k1 _ _ => st_o _ _ _ k1) (fun n hn b hb z => by rw [st_o _ _ _ (by decide)]; exact hV1.2.2.2 n hn b hb z)) hno (fun b hb => by rw [st_o _ _ _ (by decide)]; exact hh b hb) (fun j hj => ?_) hav hI hl
        by_cases e : j = i
        · rw [e, st_at]
        · rw [st_ne _ _ (Or.inr e)]
          exact h1 j (by omega)
  have loop : ∀ (k i a : Nat) (τ : FS) (U1 : Nat → Nat → Option Int32) (K1 : Nat → Nat → Bool) (H : Heap) (locs : List Loc) (ls : Array Slot), 3 < i + k → i ≤ 3 → fsInv τ R U1 K1 → (∀ n, n < i → ∀ b, U1 n b = none) → (∀ n, i ≤ n → U1 n = U n) → (∀ b, b < 16 → τ 2 b = σ 2 b) → a = sm_ U i → ob_I D 0 [.int (nI R)] fsKs h d τ A s.heap H locs → lv_has ls 3 [(2, .int (nI i)), (1, .int (nI a)), (0, .ref (h 0))] → W p l e rmX1_powerCut s m args below meth c H locs 0 0 Q (F0 m 4 ls []) := by
    intro k
    induction k with
    | zero => intro i a τ U1 K1 H locs ls h1 h2; exact absurd h1 (by omega)
    | succ k ih =>
      intro i a τ U1 K1 H locs ls hk hi hV1 hno hrs hh hav hI hl
      refine lv_iload_n hx hb dX1_powerCut_4 rfl (lv_at hl 0 rfl) ?_
      refine lv_iconst (v := nI 3) hx hb dX1_powerCut_5 (by decide) ?_
      refine n_icmp_ge (tgt := 28) hx hb dX1_powerCut_6 (by decide) (by omega) (by omega) (fun q => ?_) (fun q => ?_)
      · skip
        have hi3 : i = 3 := by omega
        subst hi3
        refine lv_iconst (v := nI 0) hx hb dX1_powerCut_28 (by decide) ?_
        refine lv_istore_n (lv' := [(2, .int (nI 0)), (1, .int (nI a)), (0, .ref (h 0))]) hx hb dX1_powerCut_29 rfl hl (by decide) rfl (fun ls hl => ?_)
        exact loop2 4 0 a τ U1 K1 H locs ls (by omega) (Nat.zero_le _) hV1 hno hh (fun j hj => absurd hj (Nat.not_lt_zero j)) hav hI hl
      · skip
        have hi3 : i < 3 := q
        obtain ⟨⟨J, C, hA, hs⟩, h7, hx2, hlk⟩ := hV1
        have hV1 : fsInv τ R U1 K1 := ⟨⟨J, C, hA, hs⟩, h7, hx2, hlk⟩
        have hR := hA.2.1
        refine lv_iload_n hx hb dX1_powerCut_9 rfl (lv_at hl 1 rfl) ?_
        refine lv_aload_n hx hb dX1_powerCut_10 rfl (lv_at hl 2 rfl) ?_
        refine lv_iload_n hx hb dX1_powerCut_11 rfl (lv_at hl 0 rfl) ?_
        refine ob_calli hX hAA hI rfl (M_unsafeCount l D h d R i hR hi3 τ (J i) (C i) (hA.2.2 i hi3).1 (hA.2.2 i hi3).2) (cwX1_unsafeCount hts rfl rfl ⟨by decide, by decide⟩) rfl hl.1 (rest := [.int (nI a)]) (by simp [Value.category]) rfl dX1_powerCut_12 (fun v2 σz H locs hp hI => ?_)
        obtain ⟨hz, v2v⟩ := hp
        rw [hz] at hI
        rw [jn_U (U := U1) (fun b hb => (hs i hi3 b hb).1)] at v2v
        subst v2v
        refine n_iadd hx hb dX1_powerCut_15 ?_
        refine lv_istore_n (lv' := [(1, .int (nI (a + (jn_ (U1 i))))), (2, .int (nI i)), (0, .ref (h 0))]) hx hb dX1_powerCut_16 rfl hl (by decide) rfl (fun ls hl => ?_)
        refine lv_aload_n hx hb dX1_powerCut_17 rfl (lv_at hl 2 rfl) ?_
        refine lv_iload_n hx hb dX1_powerCut_18 rfl (lv_at hl 1 rfl) ?_
        refine ob_callv hX hAA hI rfl (M_die l D h d R i hR hi3 τ (J i) (C i) (hA.2.2 i hi3).1 (hA.2.2 i hi3).2) (cwX1_die hts rfl rfl ⟨by decide, by decide⟩) rfl hl.1 (rest := []) (by simp [Value.category]) rfl dX1_powerCut_19 (fun υ H locs hp hI => ?_)
        obtain ⟨hJ1, hC1, hhd, h71, h11, h81, ho⟩ := hp
        have hh1 : ∀ b, b < 16 → υ 2 b = τ 2 b := by
          rcases hhd with ⟨⟨z, -⟩, -⟩ | ⟨-, z⟩
          · exact absurd (h7 i hi3) z
          · exact z
        have h7b : ∀ m, m < 3 → υ 7 m = 0 := by
          intro m hm
          rw [h71]
          by_cases e : m = i
          · simp [upd, e]
          · simp [upd, e, h7 m hm]
        refine n_iinc (k := 1) (lv' := [(2, .int (nI (i + 1))), (1, .int (nI (a + (jn_ (U1 i))))), (0, .ref (h 0))]) hx hb dX1_powerCut_22 hl rfl (by decide) rfl (fun ls hl => ?_)
        refine lv_goto (tgt := 4) hx hb dX1_powerCut_25 (by decide) ?_
        refine ih (i + 1) _ υ _ _ H locs ls (by omega) (by omega) (fsInv_die hV1 hi3 hJ1 hC1 (Or.inr hh1) h7b (fun a _ hne b hb => h81 a hne b hb) ho) (fun n hn b => ?_) (fun n hn => ?_) (fun b hb => (hh1 b hb).trans (hh b hb)) ?_ hI (lv_sub hl [0, 1, 2] rfl)
        · by_cases e : n = i
          · rw [e, up_s]
          · rw [up_n _ _ e]
            exact hno n (by omega) b
        · rw [up_n _ _ (by omega)]
          exact hrs n (by omega)
        · show a + jn_ (U1 i) = sm_ U i + jn_ (U i)
          rw [hav, hrs i (Nat.le_refl i)]
  exact loop 4 0 0 σ U K _ _ ls (by omega) (Nat.zero_le _) hV (fun n hn => absurd hn (Nat.not_lt_zero n)) (fun _ _ => rfl) (fun _ _ => rfl) rfl hI hl
set_option maxHeartbeats 4000000 in
/-- whose open write is it? -/
theorem M_ownerOf (l : Launch) (D : va_G) (h : Nat → Nat) (d : Nat → ClassId) (R b : Nat) (hb16 : b < 16) (σ : FS) (U : Nat → Nat → Option Int32) (K : Nat → Nat → Bool) (hV : fsInv σ R U K) : ob_Mi l yX1_ownerOf cX1_ownerOf 4 (some .int) rmX1_ownerOf D 0 [.int (nI R)] fsKs h d σ [.int (nI b)] (fun v σ1 => σ1 = σ ∧ ((v = -4 ∧ ∀ n, n < 3 → U n b = none) ∨ ∃ n, n < 3 ∧ v = nI n ∧ (U n b).isSome = true)) := by
  refine ob_ofWi (C := RX1) (by decide) rfl (Nat.le_of_ble_eq_true rfl) ?_
  intro p e s m args below meth c A Q ls hX hAA hI hret hl
  have hx := hX.1.1
  have hb := hX.1.2.1
  have hts := hX.1.2.2.2.2
  have hl : lv_has ls 4 [(0, .ref (h 0)), (1, .int (nI b))] := hl
  obtain ⟨⟨J, C, hA, hs⟩, h7, hx2, hlk⟩ := hV
  have hV : fsInv σ R U K := ⟨⟨J, C, hA, hs⟩, h7, hx2, hlk⟩
  have hR := hA.2.1
  refine lv_iconst (v := nI 0) hx hb dX1_ownerOf_0 (by decide) ?_
  refine lv_istore_n (lv' := [(2, .int (nI 0)), (0, .ref (h 0)), (1, .int (nI b))]) hx hb dX1_ownerOf_1 rfl hl (by decide) rfl (fun ls hl => ?_)
  have loop : ∀ (k i : Nat) (H : Heap) (locs : List Loc) (ls : Array Slot), 3 < i + k → i ≤ 3 → (∀ n, n < i → U n b = none) → ob_I D 0 [.int (nI R)] fsKs h d σ A s.heap H locs → lv_has ls 4 [(2, .int (nI i)), (0, .ref (h 0)), (1, .int (nI b))] → W p l e rmX1_ownerOf s m args below meth c H locs 0 0 Q (F0 m 2 ls []) := by
    intro k
    induction k with
    | zero => intro i H locs ls h1 h2; exact absurd h1 (by omega)
    | succ k ih =>
      intro i H locs ls hk hi hno hI hl
      refine lv_iload_n hx hb dX1_ownerOf_2 rfl (lv_at hl 0 rfl) ?_
      refine lv_iconst (v := nI 3) hx hb dX1_ownerOf_3 (by decide) ?_
      refine n_icmp_ge (tgt := 26) hx hb dX1_ownerOf_4 (by decide) (by omega) (by omega) (fun q => ?_) (fun q => ?_)
      · skip
        refine lv_bipush (v := (-4)) hx hb dX1_ownerOf_26 (by decide) ?_
        exact hret _ _ _ _ _ _ ⟨rfl, Or.inl ⟨rfl, fun n hn => hno n (by omega)⟩⟩ hI dX1_ownerOf_28
      · skip
        refine lv_aload_n hx hb dX1_ownerOf_7 rfl (lv_at hl 1 rfl) ?_
        refine lv_iload_n hx hb dX1_ownerOf_8 rfl (lv_at hl 0 rfl) ?_
        refine lv_iload_n hx hb dX1_ownerOf_9 rfl (lv_at hl 2 rfl) ?_
        refine ob_calli hX hAA hI rfl (M_isUnsafe l D h d R i b hR q hb16 σ (J i) (C i) (hA.2.2 i q).1 (hA.2.2 i q).2) (cwX1_isUnsafe hts rfl rfl ⟨by decide, by decide⟩) rfl hl.1 (rest := []) (by simp [Value.category]) rfl dX1_ownerOf_10 (fun v1 σ1 H locs hp hI => ?_)
        obtain ⟨hs0, hp⟩ := hp
        rw [hs0] at hI
        rw [← (hs i q b hb16).1] at hp
        rcases hp with ⟨rfl, hu⟩ | ⟨rfl, hu⟩
        · skip
          refine lv_istore_n (lv' := [(3, .int 1), (2, .int (nI i)), (0, .ref (h 0)), (1, .int (nI b))]) hx hb dX1_ownerOf_13 rfl hl (by decide) rfl (fun ls hl => ?_)
          refine lv_iload_n hx hb dX1_ownerOf_14 rfl (lv_at hl 0 rfl) ?_
          refine lv_if_eq (tgt := 20) hx hb dX1_ownerOf_15 (by decide) (fun q2 => ?_) (fun q2 => ?_)
          · exact absurd q2 (by decide)
          · skip
            refine lv_iload_n hx hb dX1_ownerOf_18 rfl (lv_at hl 1 rfl) ?_
            exact hret _ _ _ _ _ _ ⟨rfl, Or.inr ⟨i, q, rfl, hu⟩⟩ hI dX1_ownerOf_19
        · skip
          refine lv_istore_n (lv' := [(3, .int 0), (2, .int (nI i)), (0, .ref (h 0)), (1, .int (nI b))]) hx hb dX1_ownerOf_13 rfl hl (by decide) rfl (fun ls hl => ?_)
          refine lv_iload_n hx hb dX1_ownerOf_14 rfl (lv_at hl 0 rfl) ?_
          refine lv_if_eq (tgt := 20) hx hb dX1_ownerOf_15 (by decide) (fun q2 => ?_) (fun q2 => ?_)
          · skip
            refine n_iinc (k := 1) (lv' := [(2, .int (nI (i + 1))), (3, .int 0), (0, .ref (h 0)), (1, .int (nI b))]) hx hb dX1_ownerOf_20 hl rfl (by decide) rfl (fun ls hl => ?_)
            refine lv_goto (tgt := 2) hx hb dX1_ownerOf_23 (by decide) ?_
            exact ih (i + 1) H locs ls (by omega) (by omega) (lt_s hno hu) hI (lv_sub hl [0, 2, 3] rfl)
          · exact absurd rfl q2
  exact loop 4 0 _ _ ls (by omega) (Nat.zero_le _) (fun n hn => absurd hn (Nat.not_lt_zero n)) hI hl
set_option maxHeartbeats 4000000 in
/-- the content of a block -/
theorem M_content (l : Launch) (D : va_G) (h : Nat → Nat) (d : Nat → ClassId) (R : Nat) (x : Int32) (σ : FS) (U : Nat → Nat → Option Int32) (K : Nat → Nat → Bool) (hV : fsInv σ R U K) : ob_Mi l yX1_content cX1_content 5 (some .int) rmX1_content D 0 [.int (nI R)] fsKs h d σ [.int x] (fun v σ1 => gX 16 x (v = -2 ∧ σ1 = σ) (fun b => (((∀ n, n < 3 → U n b = none) ∧ v = σ 2 b) ∨ ∃ n, n < 3 ∧ U n b = some v) ∧ σ1 = σ)) := by
  refine ob_ofWi (C := RX1) (by decide) rfl (Nat.le_of_ble_eq_true rfl) ?_
  intro p e s m args below meth c A Q ls hX hAA hI hret hl
  have hx := hX.1.1
  have hb := hX.1.2.1
  have hts := hX.1.2.2.2.2
  have hl : lv_has ls 5 [(0, .ref (h 0)), (1, .int x)] := hl
  refine lv_iload_n hx hb dX1_content_0 rfl (lv_at hl 1 rfl) ?_
  refine ob_calls hX (M_badBlock l x) (cwX1_badBlock hts rfl rfl ⟨by decide, by decide⟩) rfl hl.1 (rest := []) (by decide) rfl dX1_content_1 (fun v0 hp => ?_)
  rcases hp with ⟨rfl, hout⟩ | ⟨rfl, b, hb16, rfl⟩
  · skip
    refine lv_if_eq (tgt := 10) hx hb dX1_content_4 (by decide) (fun q0 => ?_) (fun q0 => ?_)
    · exact absurd q0 (by decide)
    · skip
      refine lv_bipush (v := (-2)) hx hb dX1_content_7 (by decide) ?_
      exact hret _ _ _ _ _ _ (Or.inl ⟨hout, rfl, rfl⟩) hI dX1_content_9
  · skip
    refine lv_if_eq (tgt := 10) hx hb dX1_content_4 (by decide) (fun q0 => ?_) (fun q0 => ?_)
    · skip
      obtain ⟨⟨J, C, hA, hs⟩, h7, hx2, hlk⟩ := hV
      have hV : fsInv σ R U K := ⟨⟨J, C, hA, hs⟩, h7, hx2, hlk⟩
      have hR := hA.2.1
      refine lv_aload_n hx hb dX1_content_10 rfl (lv_at hl 0 rfl) ?_
      refine lv_iload_n hx hb dX1_content_11 rfl (lv_at hl 1 rfl) ?_
      refine ob_calli hX hAA hI rfl (M_ownerOf l D h d R b hb16 σ U K hV) (cwX1_ownerOf hts rfl rfl ⟨by decide, by decide⟩) rfl hl.1 (rest := []) (by simp [Value.category]) rfl dX1_content_12 (fun v1 σ1 H locs hp hI => ?_)
      obtain ⟨hs0, hp⟩ := hp
      rw [hs0] at hI
      rcases hp with ⟨rfl, hu⟩ | ⟨n, hn, rfl, hu⟩
      · skip
        refine lv_istore_n (lv' := [(2, .int ((-4))), (0, .ref (h 0)), (1, .int (nI b))]) hx hb dX1_content_15 rfl hl (by decide) rfl (fun ls hl => ?_)
        refine lv_iload_n hx hb dX1_content_16 rfl (lv_at hl 0 rfl) ?_
        refine lv_if_ge (tgt := 27) hx hb dX1_content_17 (by decide) (fun q2 => ?_) (fun q2 => ?_)
        · exact absurd q2 (by decide)
        · skip
          refine lv_aload_n hx hb dX1_content_20 rfl (lv_at hl 1 rfl) ?_
          refine fs_g2 hX hI dX1_content_21 ?_
          refine lv_iload_n hx hb dX1_content_24 rfl (lv_at hl 2 rfl) ?_
          refine ob_ld hX hI 2 rfl (b) (by omega) (by decide) dX1_content_25 ?_
          exact hret _ _ _ _ _ _ (Or.inr ⟨b, hb16, rfl, Or.inl ⟨hu, rfl⟩, rfl⟩) hI dX1_content_26
      · skip
        refine lv_istore_n (lv' := [(2, .int (nI n)), (0, .ref (h 0)), (1, .int (nI b))]) hx hb dX1_content_15 rfl hl (by decide) rfl (fun ls hl => ?_)
        refine lv_iload_n hx hb dX1_content_16 rfl (lv_at hl 0 rfl) ?_
        refine lv_if_ge (tgt := 27) hx hb dX1_content_17 (by decide) (fun q2 => ?_) (fun q2 => ?_)
        · skip
          refine lv_aload_n hx hb dX1_content_27 rfl (lv_at hl 1 rfl) ?_
          refine lv_iload_n hx hb dX1_content_28 rfl (lv_at hl 0 rfl) ?_
          refine lv_iload_n hx hb dX1_content_29 rfl (lv_at hl 2 rfl) ?_
          refine ob_calli hX hAA hI rfl (M_cached l D h d R n hR hn σ (nI b)) (cwX1_cached hts rfl rfl ⟨by decide, by decide⟩) rfl hl.1 (rest := []) (by simp [Value.category]) rfl dX1_content_30 (fun v2 σ1 H locs hp hI => ?_)
          obtain ⟨hs0, hp⟩ := hp
          rw [hs0] at hI
          rcases hp with ⟨rfl, hm2⟩ | ⟨i, hi, rfl, hq⟩
          · have hcn := fsC_miss (hA.2.2 n hn).2 hb16 hm2
            have huj : U n b = J n b := by rw [(hs n hn b hb16).1, hcn]; rfl
            refine lv_istore_n (lv' := [(3, .int ((-1))), (2, .int (nI n)), (0, .ref (h 0)), (1, .int (nI b))]) hx hb dX1_content_33 rfl hl (by decide) rfl (fun ls hl => ?_)
            refine lv_iload_n hx hb dX1_content_34 rfl (lv_at hl 0 rfl) ?_
            refine lv_if_lt (tgt := 45) hx hb dX1_content_35 (by decide) (fun q3 => ?_) (fun q3 => ?_)
            · skip
              refine lv_aload_n hx hb dX1_content_45 rfl (lv_at hl 2 rfl) ?_
              refine lv_iload_n hx hb dX1_content_46 rfl (lv_at hl 1 rfl) ?_
              refine lv_iload_n hx hb dX1_content_47 rfl (lv_at hl 3 rfl) ?_
              refine ob_calli hX hAA hI rfl (M_journaled l D h d R n hn (jn_ (J n)) (jn_le _) σ (hA.2.2 n hn).1.1 (nI b)) (cwX1_journaled hts rfl rfl ⟨by decide, by decide⟩) rfl hl.1 (rest := []) (by simp [Value.category]) rfl dX1_content_48 (fun v3 σ1 H locs hp hI => ?_)
              obtain ⟨hs0, hp⟩ := hp
              rw [hs0] at hI
              rcases hp with ⟨rfl, hm⟩ | ⟨i, hi, rfl, hq⟩
              · have hnone := fsJ_miss (hA.2.2 n hn).1 hb16 hm
                rw [huj, hnone] at hu
                cases hu
              · have hhit := fsJ_hit (hA.2.2 n hn).1 hb16 hi hq
                have hj16 := jn_le (J n)
                refine lv_istore (lv' := [(4, .int (nI (n * 16 + i))), (3, .int ((-1))), (2, .int (nI n)), (0, .ref (h 0)), (1, .int (nI b))]) hx hb dX1_content_51 hl (by decide) rfl (fun ls hl => ?_)
                refine lv_iload hx hb dX1_content_53 (lv_at hl 0 rfl) ?_
                refine lv_if_ge (tgt := 67) hx hb dX1_content_55 (by decide) (fun q4 => ?_) (fun q4 => ?_)
                · skip
                  refine lv_aload_n hx hb dX1_content_67 rfl (lv_at hl 3 rfl) ?_
                  refine fs_g5 hX hI dX1_content_68 ?_
                  refine lv_iload hx hb dX1_content_71 (lv_at hl 0 rfl) ?_
                  refine ob_ld hX hI 5 rfl (n * 16 + i) (by omega) (by decide) dX1_content_73 ?_
                  exact hret _ _ _ _ _ _ (Or.inr ⟨b, hb16, rfl, Or.inr ⟨n, hn, by rw [huj, hhit]⟩, rfl⟩) hI dX1_content_74
                · exact absurd (nI_pos' (by omega)) q4
            · exact absurd (by decide) q3
          · have hch := fsC_hit (hA.2.2 n hn).2 hb16 hi hq
            refine lv_istore_n (lv' := [(3, .int (nI (n * 8 + i))), (2, .int (nI n)), (0, .ref (h 0)), (1, .int (nI b))]) hx hb dX1_content_33 rfl hl (by decide) rfl (fun ls hl => ?_)
            refine lv_iload_n hx hb dX1_content_34 rfl (lv_at hl 0 rfl) ?_
            refine lv_if_lt (tgt := 45) hx hb dX1_content_35 (by decide) (fun q3 => ?_) (fun q3 => ?_)
            · exact absurd q3 (nI_pos (by omega))
            · skip
              refine lv_aload_n hx hb dX1_content_38 rfl (lv_at hl 2 rfl) ?_
              refine fs_g10 hX hI dX1_content_39 ?_
              refine lv_iload_n hx hb dX1_content_42 rfl (lv_at hl 0 rfl) ?_
              refine ob_ld hX hI 10 rfl (n * 8 + i) (by omega) (by decide) dX1_content_43 ?_
              refine hret _ _ _ _ _ _ (Or.inr ⟨b, hb16, rfl, Or.inr ⟨n, hn, ?_⟩, rfl⟩) hI dX1_content_44
              have hv := (hs n hn b hb16).2.2 _ hch
              cases hub : U n b with
              | none => rw [hub] at hu; cases hu
              | some w =>
                rw [hub] at hv
                have hv : σ 10 (n * 8 + i) = w := hv
                rw [hv]
        · exact absurd (nI_pos' (by omega)) q2
    · exact absurd rfl q0
set_option maxHeartbeats 4000000 in
/-- the safe content of a block -/
theorem M_safe (l : Launch) (D : va_G) (h : Nat → Nat) (d : Nat → ClassId) (R : Nat) (x : Int32) (σ : FS) : ob_Mi l yX1_safe cX1_safe 2 (some .int) rmX1_safe D 0 [.int (nI R)] fsKs h d σ [.int x] (fun v σ1 => gX 16 x (v = -2 ∧ σ1 = σ) (fun b => v = σ 2 b ∧ σ1 = σ)) := by
  refine ob_ofWi (C := RX1) (by decide) rfl (Nat.le_of_ble_eq_true rfl) ?_
  intro p e s m args below meth c A Q ls hX hAA hI hret hl
  have hx := hX.1.1
  have hb := hX.1.2.1
  have hts := hX.1.2.2.2.2
  have hl : lv_has ls 2 [(0, .ref (h 0)), (1, .int x)] := hl
  refine lv_iload_n hx hb dX1_safe_0 rfl (lv_at hl 1 rfl) ?_
  refine ob_calls hX (M_badBlock l x) (cwX1_badBlock hts rfl rfl ⟨by decide, by decide⟩) rfl hl.1 (rest := []) (by decide) rfl dX1_safe_1 (fun v0 hp => ?_)
  rcases hp with ⟨rfl, hout⟩ | ⟨rfl, b, hb16, rfl⟩
  · skip
    refine lv_if_eq (tgt := 12) hx hb dX1_safe_4 (by decide) (fun q0 => ?_) (fun q0 => ?_)
    · exact absurd q0 (by decide)
    · skip
      refine lv_bipush (v := (-2)) hx hb dX1_safe_7 (by decide) ?_
      refine lv_goto (tgt := 18) hx hb dX1_safe_9 (by decide) ?_
      exact hret _ _ _ _ _ _ (Or.inl ⟨hout, rfl, rfl⟩) hI dX1_safe_18
  · skip
    refine lv_if_eq (tgt := 12) hx hb dX1_safe_4 (by decide) (fun q0 => ?_) (fun q0 => ?_)
    · skip
      refine lv_aload_n hx hb dX1_safe_12 rfl (lv_at hl 0 rfl) ?_
      refine fs_g2 hX hI dX1_safe_13 ?_
      refine lv_iload_n hx hb dX1_safe_16 rfl (lv_at hl 1 rfl) ?_
      refine ob_ld hX hI 2 rfl (b) (by omega) (by decide) dX1_safe_17 ?_
      exact hret _ _ _ _ _ _ (Or.inr ⟨b, hb16, rfl, rfl, rfl⟩) hI dX1_safe_18
    · exact absurd rfl q0
set_option maxHeartbeats 4000000 in
/-- whose open write is it? -/
theorem M_owner (l : Launch) (D : va_G) (h : Nat → Nat) (d : Nat → ClassId) (R : Nat) (x : Int32) (σ : FS) (U : Nat → Nat → Option Int32) (K : Nat → Nat → Bool) (hV : fsInv σ R U K) : ob_Mi l yX1_owner cX1_owner 2 (some .int) rmX1_owner D 0 [.int (nI R)] fsKs h d σ [.int x] (fun v σ1 => gX 16 x (v = -2 ∧ σ1 = σ) (fun b => ((v = -4 ∧ ∀ n, n < 3 → U n b = none) ∨ ∃ n, n < 3 ∧ v = nI n ∧ (U n b).isSome = true) ∧ σ1 = σ)) := by
  refine ob_ofWi (C := RX1) (by decide) rfl (Nat.le_of_ble_eq_true rfl) ?_
  intro p e s m args below meth c A Q ls hX hAA hI hret hl
  have hx := hX.1.1
  have hb := hX.1.2.1
  have hts := hX.1.2.2.2.2
  have hl : lv_has ls 2 [(0, .ref (h 0)), (1, .int x)] := hl
  refine lv_iload_n hx hb dX1_owner_0 rfl (lv_at hl 1 rfl) ?_
  refine ob_calls hX (M_badBlock l x) (cwX1_badBlock hts rfl rfl ⟨by decide, by decide⟩) rfl hl.1 (rest := []) (by decide) rfl dX1_owner_1 (fun v0 hp => ?_)
  rcases hp with ⟨rfl, hout⟩ | ⟨rfl, b, hb16, rfl⟩
  · skip
    refine lv_if_eq (tgt := 12) hx hb dX1_owner_4 (by decide) (fun q0 => ?_) (fun q0 => ?_)
    · exact absurd q0 (by decide)
    · skip
      refine lv_bipush (v := (-2)) hx hb dX1_owner_7 (by decide) ?_
      refine lv_goto (tgt := 17) hx hb dX1_owner_9 (by decide) ?_
      exact hret _ _ _ _ _ _ (Or.inl ⟨hout, rfl, rfl⟩) hI dX1_owner_17
  · skip
    refine lv_if_eq (tgt := 12) hx hb dX1_owner_4 (by decide) (fun q0 => ?_) (fun q0 => ?_)
    · skip
      refine lv_aload_n hx hb dX1_owner_12 rfl (lv_at hl 0 rfl) ?_
      refine lv_iload_n hx hb dX1_owner_13 rfl (lv_at hl 1 rfl) ?_
      refine ob_calli hX hAA hI rfl (M_ownerOf l D h d R b hb16 σ U K hV) (cwX1_ownerOf hts rfl rfl ⟨by decide, by decide⟩) rfl hl.1 (rest := []) (by simp [Value.category]) rfl dX1_owner_14 (fun v1 σ1 H locs hp hI => ?_)
      exact hret _ _ _ _ _ _ (Or.inr ⟨b, hb16, rfl, hp.2, hp.1⟩) hI dX1_owner_17
    · exact absurd rfl q0
set_option maxHeartbeats 4000000 in
/-- how many open writes? -/
theorem M_openCount (l : Launch) (D : va_G) (h : Nat → Nat) (d : Nat → ClassId) (R : Nat) (x : Int32) (σ : FS) (U : Nat → Nat → Option Int32) (K : Nat → Nat → Bool) (hV : fsInv σ R U K) : ob_Mi l yX1_unsafe cX1_unsafe 2 (some .int) rmX1_unsafe D 0 [.int (nI R)] fsKs h d σ [.int x] (fun v σ1 => gX 3 x (v = -1 ∧ σ1 = σ) (fun n => v = nI (jn_ (U n)) ∧ σ1 = σ)) := by
  refine ob_ofWi (C := RX1) (by decide) rfl (Nat.le_of_ble_eq_true rfl) ?_
  intro p e s m args below meth c A Q ls hX hAA hI hret hl
  have hx := hX.1.1
  have hb := hX.1.2.1
  have hts := hX.1.2.2.2.2
  have hl : lv_has ls 2 [(0, .ref (h 0)), (1, .int x)] := hl
  refine lv_iload_n hx hb dX1_unsafe_0 rfl (lv_at hl 1 rfl) ?_
  refine ob_calls hX (M_badNode l x) (cwX1_badNode hts rfl rfl ⟨by decide, by decide⟩) rfl hl.1 (rest := []) (by decide) rfl dX1_unsafe_1 (fun v0 hp => ?_)
  rcases hp with ⟨rfl, hout⟩ | ⟨rfl, n, hn, rfl⟩
  · skip
    refine lv_if_eq (tgt := 11) hx hb dX1_unsafe_4 (by decide) (fun q0 => ?_) (fun q0 => ?_)
    · exact absurd q0 (by decide)
    · skip
      refine lv_iconst (v := (-1)) hx hb dX1_unsafe_7 (by decide) ?_
      refine lv_goto (tgt := 16) hx hb dX1_unsafe_8 (by decide) ?_
      exact hret _ _ _ _ _ _ (Or.inl ⟨hout, rfl, rfl⟩) hI dX1_unsafe_16
  · skip
    refine lv_if_eq (tgt := 11) hx hb dX1_unsafe_4 (by decide) (fun q0 => ?_) (fun q0 => ?_)
    · skip
      obtain ⟨⟨J, C, hA, hs⟩, h7, hx2, hlk⟩ := hV
      have hV : fsInv σ R U K := ⟨⟨J, C, hA, hs⟩, h7, hx2, hlk⟩
      have hR := hA.2.1
      refine lv_aload_n hx hb dX1_unsafe_11 rfl (lv_at hl 0 rfl) ?_
      refine lv_iload_n hx hb dX1_unsafe_12 rfl (lv_at hl 1 rfl) ?_
      refine ob_calli hX hAA hI rfl (M_unsafeCount l D h d R n hR hn σ (J n) (C n) (hA.2.2 n hn).1 (hA.2.2 n hn).2) (cwX1_unsafeCount hts rfl rfl ⟨by decide, by decide⟩) rfl hl.1 (rest := []) (by simp [Value.category]) rfl dX1_unsafe_13 (fun v2 σz H locs hp hI => ?_)
      obtain ⟨hz, v2v⟩ := hp
      rw [hz] at hI
      rw [jn_U (U := U) (fun b hb => (hs n hn b hb).1)] at v2v
      exact hret _ _ _ _ _ _ (Or.inr ⟨n, hn, rfl, v2v, rfl⟩) hI dX1_unsafe_16
    · exact absurd rfl q0
set_option maxHeartbeats 4000000 in
/-- is the node up? -/
theorem M_up (l : Launch) (D : va_G) (h : Nat → Nat) (d : Nat → ClassId) (R : Nat) (x : Int32) (σ : FS) : ob_Mi l yX1_up cX1_up 2 (some .boolean) rmX1_up D 0 [.int (nI R)] fsKs h d σ [.int x] (fun v σ1 => gX 3 x (v = 0 ∧ σ1 = σ) (fun n => ((σ 1 n = 0 ∧ v = 0) ∨ (σ 1 n ≠ 0 ∧ v = 1)) ∧ σ1 = σ)) := by
  refine ob_ofWz (C := RX1) (by decide) rfl (Nat.le_of_ble_eq_true rfl) ?_
  intro p e s m args below meth c A Q ls hX hAA hI hret hl
  have hx := hX.1.1
  have hb := hX.1.2.1
  have hts := hX.1.2.2.2.2
  have hl : lv_has ls 2 [(0, .ref (h 0)), (1, .int x)] := hl
  refine lv_iload_n hx hb dX1_up_0 rfl (lv_at hl 1 rfl) ?_
  refine ob_calls hX (M_badNode l x) (cwX1_badNode hts rfl rfl ⟨by decide, by decide⟩) rfl hl.1 (rest := []) (by decide) rfl dX1_up_1 (fun v0 hp => ?_)
  rcases hp with ⟨rfl, hout⟩ | ⟨rfl, n, hn, rfl⟩
  · skip
    refine lv_if_ne (tgt := 20) hx hb dX1_up_4 (by decide) (fun q0 => ?_) (fun q0 => ?_)
    · skip
      refine lv_iconst (v := 0) hx hb dX1_up_20 (by decide) ?_
      exact hret _ _ _ _ _ _ rfl (Or.inl ⟨hout, rfl, rfl⟩) hI dX1_up_21
    · exact absurd q0 (by decide)
  · skip
    refine lv_if_ne (tgt := 20) hx hb dX1_up_4 (by decide) (fun q0 => ?_) (fun q0 => ?_)
    · exact absurd rfl q0
    · skip
      refine lv_aload_n hx hb dX1_up_7 rfl (lv_at hl 0 rfl) ?_
      refine fs_g1 hX hI dX1_up_8 ?_
      refine lv_iload_n hx hb dX1_up_11 rfl (lv_at hl 1 rfl) ?_
      refine ob_zld hX hI 1 rfl (n) (by omega) (by decide) dX1_up_12 ?_
      refine lv_if_eq (tgt := 20) hx hb dX1_up_13 (by decide) (fun q1 => ?_) (fun q1 => ?_)
      · skip
        refine lv_iconst (v := 0) hx hb dX1_up_20 (by decide) ?_
        exact hret _ _ _ _ _ _ rfl (Or.inr ⟨n, hn, rfl, Or.inl ⟨q1, rfl⟩, rfl⟩) hI dX1_up_21
      · skip
        refine lv_iconst (v := 1) hx hb dX1_up_16 (by decide) ?_
        refine lv_goto (tgt := 21) hx hb dX1_up_17 (by decide) ?_
        exact hret _ _ _ _ _ _ rfl (Or.inr ⟨n, hn, rfl, Or.inr ⟨q1, rfl⟩, rfl⟩) hI dX1_up_21
end
section
/-! CONTRACTS of SharedDiskFsModel: isNode, isBlock, refusal, settle, takeFromOthers, the count, read, write, swap -/
set_option maxRecDepth 100000
/-- what 'settle' leaves when it has looked at the first i blocks -/
def mdSet (μ : FS) (x kp : Int32) (i : Nat) : FS := fun k b => if b < i ∧ μ 3 b = x then (if k = 1 then (if kp = 0 then μ 2 b else μ 1 b) else if k = 2 then (if kp = 0 then μ 2 b else μ 1 b) else if k = 3 then -4 else μ k b) else μ k b
def ocx (μ : FS) (x : Int32) : Nat := fb_ct (fun b => decide (μ 3 b = x)) 16
def mdT (μ : FS) (n b : Nat) : FS := if μ 3 b < 0 ∨ μ 3 b = nI n then μ else mdSet μ (μ 3 b) 1 16
def mdW (μ : FS) (n b : Nat) (z : Int32) : FS := st_ (st_ (mdT μ n b) 1 b z) 3 b (nI n)
def mdP (μ : FS) : Nat → FS
  | 0 => μ
  | i + 1 => st_ (mdSet (mdP μ i) (nI i) 0 16) 4 i 0
def mdPs (μ : FS) : Nat → Nat
  | 0 => 0
  | i + 1 => mdPs μ i + ocx (mdP μ i) (nI i)
theorem mdSet_0 (μ : FS) (x kp : Int32) : mdSet μ x kp 0 = μ := by
  funext k b
  simp [mdSet]
theorem mdSet_3 (μ : FS) (x kp : Int32) (i : Nat) : mdSet μ x kp i 3 i = μ 3 i := by simp [mdSet]
theorem mdSet_at (μ : FS) (x kp : Int32) (k i : Nat) : mdSet μ x kp i k i = μ k i := by simp [mdSet]
theorem mdSet_4 (μ : FS) (x kp : Int32) (i : Nat) : mdSet μ x kp i 4 = μ 4 := by
  funext b
  simp [mdSet]
theorem mdSet_no {μ : FS} {x kp : Int32} {i : Nat} (h : μ 3 i ≠ x) : mdSet μ x kp (i + 1) = mdSet μ x kp i := by
  funext k b
  unfold mdSet
  by_cases e : b = i
  · subst e
    simp [h]
  · by_cases hb : b < i
    · simp only [hb, show b < i + 1 by omega, true_and]
    · simp only [hb, show ¬ b < i + 1 by omega, false_and, if_false]
theorem mdSet_yes {μ : FS} {x kp : Int32} {i : Nat} (h : μ 3 i = x) (hk : ¬ kp = 0) : st_ (st_ (mdSet μ x kp i) 2 i (mdSet μ x kp i 1 i)) 3 i (-4) = mdSet μ x kp (i + 1) := by
  funext k b
  rw [mdSet_at]
  by_cases e : b = i
  · subst e
    unfold st_ mdSet
    by_cases k3 : k = 3
    · subst k3; simp [h]
    · by_cases k2 : k = 2
      · subst k2; simp [h, hk]
      · by_cases k1 : k = 1
        · subst k1; simp [h, hk]
        · simp [k1, k2, k3]
  · rw [st_ne _ _ (Or.inr e), st_ne _ _ (Or.inr e)]
    unfold mdSet
    by_cases hb : b < i
    · simp only [hb, show b < i + 1 by omega, true_and]
    · simp only [hb, show ¬ b < i + 1 by omega, false_and, if_false]
theorem mdSet_un {μ : FS} {x kp : Int32} {i : Nat} (h : μ 3 i = x) (hk : kp = 0) : st_ (st_ (mdSet μ x kp i) 1 i (mdSet μ x kp i 2 i)) 3 i (-4) = mdSet μ x kp (i + 1) := by
  funext k b
  rw [mdSet_at]
  by_cases e : b = i
  · subst e
    unfold st_ mdSet
    by_cases k3 : k = 3
    · subst k3; simp [h]
    · by_cases k2 : k = 2
      · subst k2; simp [h, hk]
      · by_cases k1 : k = 1
        · subst k1; simp [h, hk]
        · simp [k1, k2, k3]
  · rw [st_ne _ _ (Or.inr e), st_ne _ _ (Or.inr e)]
    unfold mdSet
    by_cases hb : b < i
    · simp only [hb, show b < i + 1 by omega, true_and]
    · simp only [hb, show ¬ b < i + 1 by omega, false_and, if_false]
theorem mdT_4 (μ : FS) (n b : Nat) : mdT μ n b 4 = μ 4 := by
  unfold mdT
  split
  · rfl
  · exact mdSet_4 _ _ _ _
theorem mdW_4 (μ : FS) (n b : Nat) (z : Int32) : mdW μ n b z 4 = μ 4 := by
  unfold mdW
  rw [st_o _ _ _ (by decide), st_o _ _ _ (by decide), mdT_4]
set_option maxHeartbeats 4000000 in
/-- isNode -/
theorem M2_isNode (l : Launch) (D : va_G) (h : Nat → Nat) (d : Nat → ClassId) (x : Int32) (μ : FS) : ob_Mi l yX2_isNode cX2_isNode 2 (some .boolean) rmX2_isNode D 1 [] mdKs h d μ [.int x] (fun v σ1 => σ1 = μ ∧ ((v = 1 ∧ ∃ n, n < 3 ∧ x = nI n) ∨ (v = 0 ∧ ∀ n, n < 3 → x ≠ nI n))) := by
  refine ob_ofWz (C := RX2) (by decide) rfl (Nat.le_of_ble_eq_true rfl) ?_
  intro p e s m args below meth c A Q ls hX hAA hI hret hl
  have hx := hX.1.1
  have hb := hX.1.2.1
  have hts := hX.1.2.2.2.2
  have hl : lv_has ls 2 [(0, .ref (h 0)), (1, .int x)] := hl
  refine lv_iload_n hx hb dX2_isNode_0 rfl (lv_at hl 1 rfl) ?_
  refine lv_if_lt (tgt := 13) hx hb dX2_isNode_1 (by decide) (fun q => ?_) (fun q => ?_)
  · skip
    refine lv_iconst (v := 0) hx hb dX2_isNode_13 (by decide) ?_
    exact hret _ _ _ _ _ _ rfl ⟨rfl, Or.inr ⟨rfl, ix_out (by decide) (Or.inl q)⟩⟩ hI dX2_isNode_14
  · skip
    refine lv_iload_n hx hb dX2_isNode_4 rfl (lv_at hl 1 rfl) ?_
    refine lv_iconst (v := nI 3) hx hb dX2_isNode_5 (by decide) ?_
    refine lv_icmp_ge (tgt := 13) hx hb dX2_isNode_6 (by decide) (fun q2 => ?_) (fun q2 => ?_)
    · skip
      refine lv_iconst (v := 0) hx hb dX2_isNode_13 (by decide) ?_
      exact hret _ _ _ _ _ _ rfl ⟨rfl, Or.inr ⟨rfl, ix_out (by decide) (Or.inr (fun z => Int32.not_le.mpr z q2))⟩⟩ hI dX2_isNode_14
    · skip
      refine lv_iconst (v := 1) hx hb dX2_isNode_9 (by decide) ?_
      refine lv_goto (tgt := 14) hx hb dX2_isNode_10 (by decide) ?_
      exact hret _ _ _ _ _ _ rfl ⟨rfl, Or.inl ⟨rfl, ix_in (by decide) q (Int32.not_le.mp q2)⟩⟩ hI dX2_isNode_14
set_option maxHeartbeats 4000000 in
/-- isBlock -/
theorem M2_isBlock (l : Launch) (D : va_G) (h : Nat → Nat) (d : Nat → ClassId) (x : Int32) (μ : FS) : ob_Mi l yX2_isBlock cX2_isBlock 2 (some .boolean) rmX2_isBlock D 1 [] mdKs h d μ [.int x] (fun v σ1 => σ1 = μ ∧ ((v = 1 ∧ ∃ n, n < 16 ∧ x = nI n) ∨ (v = 0 ∧ ∀ n, n < 16 → x ≠ nI n))) := by
  refine ob_ofWz (C := RX2) (by decide) rfl (Nat.le_of_ble_eq_true rfl) ?_
  intro p e s m args below meth c A Q ls hX hAA hI hret hl
  have hx := hX.1.1
  have hb := hX.1.2.1
  have hts := hX.1.2.2.2.2
  have hl : lv_has ls 2 [(0, .ref (h 0)), (1, .int x)] := hl
  refine lv_iload_n hx hb dX2_isBlock_0 rfl (lv_at hl 1 rfl) ?_
  refine lv_if_lt (tgt := 14) hx hb dX2_isBlock_1 (by decide) (fun q => ?_) (fun q => ?_)
  · skip
    refine lv_iconst (v := 0) hx hb dX2_isBlock_14 (by decide) ?_
    exact hret _ _ _ _ _ _ rfl ⟨rfl, Or.inr ⟨rfl, ix_out (by decide) (Or.inl q)⟩⟩ hI dX2_isBlock_15
  · skip
    refine lv_iload_n hx hb dX2_isBlock_4 rfl (lv_at hl 1 rfl) ?_
    refine lv_bipush (v := nI 16) hx hb dX2_isBlock_5 (by decide) ?_
    refine lv_icmp_ge (tgt := 14) hx hb dX2_isBlock_7 (by decide) (fun q2 => ?_) (fun q2 => ?_)
    · skip
      refine lv_iconst (v := 0) hx hb dX2_isBlock_14 (by decide) ?_
      exact hret _ _ _ _ _ _ rfl ⟨rfl, Or.inr ⟨rfl, ix_out (by decide) (Or.inr (fun z => Int32.not_le.mpr z q2))⟩⟩ hI dX2_isBlock_15
    · skip
      refine lv_iconst (v := 1) hx hb dX2_isBlock_10 (by decide) ?_
      refine lv_goto (tgt := 15) hx hb dX2_isBlock_11 (by decide) ?_
      exact hret _ _ _ _ _ _ rfl ⟨rfl, Or.inl ⟨rfl, ix_in (by decide) q (Int32.not_le.mp q2)⟩⟩ hI dX2_isBlock_15
set_option maxHeartbeats 4000000 in
/-- refusal -/
theorem M2_refusal (l : Launch) (D : va_G) (h : Nat → Nat) (d : Nat → ClassId) (x y z : Int32) (μ : FS) : ob_Mi l yX2_refusal cX2_refusal 4 (some .int) rmX2_refusal D 1 [] mdKs h d μ [.int x, .int y, .int z] (fun v σ1 => σ1 = μ ∧ gX 3 x (v = -1) (fun n => gX 16 y (v = -2) (fun _ => gX 16 z (v = -2) (fun _ => (μ 4 n ≠ 0 ∧ v = -3) ∨ (μ 4 n = 0 ∧ v = 0))))) := by
  refine ob_ofWi (C := RX2) (by decide) rfl (Nat.le_of_ble_eq_true rfl) ?_
  intro p e s m args below meth c A Q ls hX hAA hI hret hl
  have hx := hX.1.1
  have hb := hX.1.2.1
  have hts := hX.1.2.2.2.2
  have hl : lv_has ls 4 [(0, .ref (h 0)), (1, .int x), (2, .int y), (3, .int z)] := hl
  refine lv_aload_n hx hb dX2_refusal_0 rfl (lv_at hl 0 rfl) ?_
  refine lv_iload_n hx hb dX2_refusal_1 rfl (lv_at hl 1 rfl) ?_
  refine ob_calli hX hAA hI rfl (M2_isNode l D h d x μ) (cwX2_isNode hts rfl rfl ⟨by decide, by decide⟩) rfl hl.1 (rest := []) (by simp [Value.category]) rfl dX2_refusal_2 (fun v0 σ0 H locs hp hI => ?_)
  obtain ⟨hs0, hp⟩ := hp
  rw [hs0] at hI
  rcases hp with ⟨rfl, n, hn, rfl⟩ | ⟨rfl, hout⟩
  · skip
    refine lv_if_ne (tgt := 10) hx hb dX2_refusal_5 (by decide) (fun q0 => ?_) (fun q0 => ?_)
    · skip
      refine lv_aload_n hx hb dX2_refusal_10 rfl (lv_at hl 0 rfl) ?_
      refine lv_iload_n hx hb dX2_refusal_11 rfl (lv_at hl 2 rfl) ?_
      refine ob_calli hX hAA hI rfl (M2_isBlock l D h d y μ) (cwX2_isBlock hts rfl rfl ⟨by decide, by decide⟩) rfl hl.1 (rest := []) (by simp [Value.category]) rfl dX2_refusal_12 (fun v0 σ0 H locs hp hI => ?_)
      obtain ⟨hs0, hp⟩ := hp
      rw [hs0] at hI
      rcases hp with ⟨rfl, a, ha16, rfl⟩ | ⟨rfl, hout⟩
      · skip
        refine lv_if_eq (tgt := 26) hx hb dX2_refusal_15 (by decide) (fun q0 => ?_) (fun q0 => ?_)
        · exact absurd q0 (by decide)
        · skip
          refine lv_aload_n hx hb dX2_refusal_18 rfl (lv_at hl 0 rfl) ?_
          refine lv_iload_n hx hb dX2_refusal_19 rfl (lv_at hl 3 rfl) ?_
          refine ob_calli hX hAA hI rfl (M2_isBlock l D h d z μ) (cwX2_isBlock hts rfl rfl ⟨by decide, by decide⟩) rfl hl.1 (rest := []) (by simp [Value.category]) rfl dX2_refusal_20 (fun v0 σ0 H locs hp hI => ?_)
          obtain ⟨hs0, hp⟩ := hp
          rw [hs0] at hI
          rcases hp with ⟨rfl, b, hb16, rfl⟩ | ⟨rfl, hout⟩
          · skip
            refine lv_if_ne (tgt := 29) hx hb dX2_refusal_23 (by decide) (fun q0 => ?_) (fun q0 => ?_)
            · skip
              refine lv_aload_n hx hb dX2_refusal_29 rfl (lv_at hl 0 rfl) ?_
              refine md_g4 hX hI dX2_refusal_30 ?_
              refine lv_iload_n hx hb dX2_refusal_33 rfl (lv_at hl 1 rfl) ?_
              refine ob_zld hX hI 4 rfl (n) (by omega) (by decide) dX2_refusal_34 ?_
              refine lv_if_eq (tgt := 43) hx hb dX2_refusal_35 (by decide) (fun q => ?_) (fun q => ?_)
              · skip
                refine lv_iconst (v := 0) hx hb dX2_refusal_43 (by decide) ?_
                exact hret _ _ _ _ _ _ ⟨rfl, Or.inr ⟨n, hn, rfl, Or.inr ⟨a, ha16, rfl, Or.inr ⟨b, hb16, rfl, Or.inr ⟨q, rfl⟩⟩⟩⟩⟩ hI dX2_refusal_44
              · skip
                refine lv_bipush (v := (-3)) hx hb dX2_refusal_38 (by decide) ?_
                refine lv_goto (tgt := 44) hx hb dX2_refusal_40 (by decide) ?_
                exact hret _ _ _ _ _ _ ⟨rfl, Or.inr ⟨n, hn, rfl, Or.inr ⟨a, ha16, rfl, Or.inr ⟨b, hb16, rfl, Or.inl ⟨q, rfl⟩⟩⟩⟩⟩ hI dX2_refusal_44
            · exact absurd q0 (by decide)
          · skip
            refine lv_if_ne (tgt := 29) hx hb dX2_refusal_23 (by decide) (fun q0 => ?_) (fun q0 => ?_)
            · exact absurd rfl q0
            · skip
              refine lv_bipush (v := (-2)) hx hb dX2_refusal_26 (by decide) ?_
              exact hret _ _ _ _ _ _ ⟨rfl, Or.inr ⟨n, hn, rfl, Or.inr ⟨a, ha16, rfl, Or.inl ⟨hout, rfl⟩⟩⟩⟩ hI dX2_refusal_28
      · skip
        refine lv_if_eq (tgt := 26) hx hb dX2_refusal_15 (by decide) (fun q0 => ?_) (fun q0 => ?_)
        · skip
          refine lv_bipush (v := (-2)) hx hb dX2_refusal_26 (by decide) ?_
          exact hret _ _ _ _ _ _ ⟨rfl, Or.inr ⟨n, hn, rfl, Or.inl ⟨hout, rfl⟩⟩⟩ hI dX2_refusal_28
        · exact absurd rfl q0
    · exact absurd q0 (by decide)
  · skip
    refine lv_if_ne (tgt := 10) hx hb dX2_refusal_5 (by decide) (fun q0 => ?_) (fun q0 => ?_)
    · exact absurd rfl q0
    · skip
      refine lv_iconst (v := (-1)) hx hb dX2_refusal_8 (by decide) ?_
      exact hret _ _ _ _ _ _ ⟨rfl, Or.inl ⟨hout, rfl⟩⟩ hI dX2_refusal_9
set_option maxHeartbeats 4000000 in
/-- settle -/
theorem M2_settle (l : Launch) (D : va_G) (h : Nat → Nat) (d : Nat → ClassId) (x kp : Int32) (μ : FS) : ob_Mi l yX2_settle cX2_settle 5 (some .int) rmX2_settle D 1 [] mdKs h d μ [.int x, .int kp] (fun v σ1 => σ1 = mdSet μ x kp 16 ∧ v = nI (ocx μ x)) := by
  refine ob_ofWi (C := RX2) (by decide) rfl (Nat.le_of_ble_eq_true rfl) ?_
  intro p e s m args below meth c A Q ls hX hAA hI hret hl
  have hx := hX.1.1
  have hb := hX.1.2.1
  have hts := hX.1.2.2.2.2
  have hl : lv_has ls 5 [(0, .ref (h 0)), (1, .int x), (2, .int kp)] := hl
  refine lv_iconst (v := nI 0) hx hb dX2_settle_0 (by decide) ?_
  refine lv_istore_n (lv' := [(3, .int (nI 0)), (0, .ref (h 0)), (1, .int x), (2, .int kp)]) hx hb dX2_settle_1 rfl hl (by decide) rfl (fun ls hl => ?_)
  refine lv_iconst (v := nI 0) hx hb dX2_settle_2 (by decide) ?_
  refine lv_istore (lv' := [(4, .int (nI 0)), (3, .int (nI 0)), (0, .ref (h 0)), (1, .int x), (2, .int kp)]) hx hb dX2_settle_3 hl (by decide) rfl (fun ls hl => ?_)
  have loop : ∀ (k i a : Nat) (τ : FS) (H : Heap) (locs : List Loc) (ls : Array Slot), 16 < i + k → i ≤ 16 → τ = mdSet μ x kp i → a = fb_ct (fun b => decide (μ 3 b = x)) i → ob_I D 1 [] mdKs h d τ A s.heap H locs → lv_has ls 5 [(4, .int (nI i)), (3, .int (nI a)), (0, .ref (h 0)), (1, .int x), (2, .int kp)] → W p l e rmX2_settle s m args below meth c H locs 0 0 Q (F0 m 5 ls []) := by
    intro k
    induction k with
    | zero => intro i a τ H locs ls h1 h2; exact absurd h1 (by omega)
    | succ k ih =>
      intro i a τ H locs ls hk hi ht hav hI hl
      refine lv_iload hx hb dX2_settle_5 (lv_at hl 0 rfl) ?_
      refine lv_bipush (v := nI 16) hx hb dX2_settle_7 (by decide) ?_
      refine n_icmp_ge (tgt := 76) hx hb dX2_settle_9 (by decide) (by omega) (by omega) (fun q => ?_) (fun q => ?_)
      · skip
        have hi16 : i = 16 := by omega
        subst hi16
        refine lv_iload_n hx hb dX2_settle_76 rfl (lv_at hl 1 rfl) ?_
        exact hret _ _ _ _ _ _ ⟨ht, by rw [hav]; rfl⟩ hI dX2_settle_77
      · skip
        refine lv_aload_n hx hb dX2_settle_12 rfl (lv_at hl 2 rfl) ?_
        refine md_g3 hX hI dX2_settle_13 ?_
        refine lv_iload hx hb dX2_settle_16 (lv_at hl 0 rfl) ?_
        refine ob_ld hX hI 3 rfl (i) (by omega) (by decide) dX2_settle_18 ?_
        refine lv_iload_n hx hb dX2_settle_19 rfl (lv_at hl 3 rfl) ?_
        refine lv_icmp_ne (tgt := 70) hx hb dX2_settle_20 (by decide) (fun q2 => ?_) (fun q2 => ?_)
        · skip
          refine n_iinc (k := 0) (lv' := [(4, .int (nI (i + 1))), (3, .int (nI a)), (0, .ref (h 0)), (1, .int x), (2, .int kp)]) hx hb dX2_settle_70 hl rfl (by decide) rfl (fun ls hl => ?_)
          refine lv_goto (tgt := 5) hx hb dX2_settle_73 (by decide) ?_
          have q3 : μ 3 i ≠ x := by rw [ht, mdSet_3] at q2; exact q2
          exact ih (i + 1) a τ H locs ls (by omega) (by omega) (by rw [mdSet_no q3]; exact ht) (by rw [hav, fb_ct_succ]; simp [q3]) hI hl
        · skip
          have q3 : μ 3 i = x := by rw [ht, mdSet_3] at q2; exact q2
          refine lv_iload_n hx hb dX2_settle_23 rfl (lv_at hl 4 rfl) ?_
          refine lv_if_eq (tgt := 44) hx hb dX2_settle_24 (by decide) (fun q4 => ?_) (fun q4 => ?_)
          · skip
            refine lv_aload_n hx hb dX2_settle_44 rfl (lv_at hl 2 rfl) ?_
            refine md_g1 hX hI dX2_settle_45 ?_
            refine lv_iload hx hb dX2_settle_48 (lv_at hl 0 rfl) ?_
            refine lv_aload_n hx hb dX2_settle_50 rfl (lv_at hl 2 rfl) ?_
            refine md_g2 hX hI dX2_settle_51 ?_
            refine lv_iload hx hb dX2_settle_54 (lv_at hl 0 rfl) ?_
            refine ob_ld hX hI 2 rfl (i) (by omega) (by decide) dX2_settle_56 ?_
            refine ob_st hX hI 1 rfl (i) (by omega) (by decide) dX2_settle_57 (fun H locs hI => ?_)
            refine lv_aload_n hx hb dX2_settle_58 rfl (lv_at hl 2 rfl) ?_
            refine md_g3 hX hI dX2_settle_59 ?_
            refine lv_iload hx hb dX2_settle_62 (lv_at hl 0 rfl) ?_
            refine lv_bipush (v := (-4)) hx hb dX2_settle_64 (by decide) ?_
            refine ob_st hX hI 3 rfl (i) (by omega) (by decide) dX2_settle_66 (fun H locs hI => ?_)
            refine n_iinc (k := 1) (lv' := [(3, .int (nI (a + 1))), (4, .int (nI i)), (0, .ref (h 0)), (1, .int x), (2, .int kp)]) hx hb dX2_settle_67 hl rfl (by decide) rfl (fun ls hl => ?_)
            refine n_iinc (k := 1) (lv' := [(4, .int (nI (i + 1))), (3, .int (nI (a + 1))), (0, .ref (h 0)), (1, .int x), (2, .int kp)]) hx hb dX2_settle_70 hl rfl (by decide) rfl (fun ls hl => ?_)
            refine lv_goto (tgt := 5) hx hb dX2_settle_73 (by decide) ?_
            exact ih (i + 1) (a + 1) _ H locs ls (by omega) (by omega) (by rw [ht]; exact mdSet_un q3 q4) (by rw [hav, fb_ct_succ]; simp [q3]) hI (lv_sub hl [0, 1, 2, 3, 4] rfl)
          · skip
            refine lv_aload_n hx hb dX2_settle_27 rfl (lv_at hl 2 rfl) ?_
            refine md_g2 hX hI dX2_settle_28 ?_
            refine lv_iload hx hb dX2_settle_31 (lv_at hl 0 rfl) ?_
            refine lv_aload_n hx hb dX2_settle_33 rfl (lv_at hl 2 rfl) ?_
            refine md_g1 hX hI dX2_settle_34 ?_
            refine lv_iload hx hb dX2_settle_37 (lv_at hl 0 rfl) ?_
            refine ob_ld hX hI 1 rfl (i) (by omega) (by decide) dX2_settle_39 ?_
            refine ob_st hX hI 2 rfl (i) (by omega) (by decide) dX2_settle_40 (fun H locs hI => ?_)
            refine lv_goto (tgt := 58) hx hb dX2_settle_41 (by decide) ?_
            refine lv_aload_n hx hb dX2_settle_58 rfl (lv_at hl 2 rfl) ?_
            refine md_g3 hX hI dX2_settle_59 ?_
            refine lv_iload hx hb dX2_settle_62 (lv_at hl 0 rfl) ?_
            refine lv_bipush (v := (-4)) hx hb dX2_settle_64 (by decide) ?_
            refine ob_st hX hI 3 rfl (i) (by omega) (by decide) dX2_settle_66 (fun H locs hI => ?_)
            refine n_iinc (k := 1) (lv' := [(3, .int (nI (a + 1))), (4, .int (nI i)), (0, .ref (h 0)), (1, .int x), (2, .int kp)]) hx hb dX2_settle_67 hl rfl (by decide) rfl (fun ls hl => ?_)
            refine n_iinc (k := 1) (lv' := [(4, .int (nI (i + 1))), (3, .int (nI (a + 1))), (0, .ref (h 0)), (1, .int x), (2, .int kp)]) hx hb dX2_settle_70 hl rfl (by decide) rfl (fun ls hl => ?_)
            refine lv_goto (tgt := 5) hx hb dX2_settle_73 (by decide) ?_
            exact ih (i + 1) (a + 1) _ H locs ls (by omega) (by omega) (by rw [ht]; exact mdSet_yes q3 q4) (by rw [hav, fb_ct_succ]; simp [q3]) hI (lv_sub hl [0, 1, 2, 3, 4] rfl)
  exact loop 17 0 0 μ _ _ ls (by omega) (Nat.zero_le _) (mdSet_0 _ _ _).symm rfl hI hl
set_option maxHeartbeats 4000000 in
/-- takeFromOthers -/
theorem M2_take (l : Launch) (D : va_G) (h : Nat → Nat) (d : Nat → ClassId) (n b : Nat) (hn : n < 3) (hb16 : b < 16) (μ : FS) : ob_Mv l yX2_takeFromOthers cX2_takeFromOthers 3 rmX2_takeFromOthers D 1 [] mdKs h d μ [.int (nI n), .int (nI b)] (fun σ1 => σ1 = mdT μ n b) := by
  refine ob_ofWv (C := RX2) (by decide) rfl (Nat.le_of_ble_eq_true rfl) ?_
  intro p e s m args below meth c A Q ls hX hAA hI hret hl
  have hx := hX.1.1
  have hb := hX.1.2.1
  have hts := hX.1.2.2.2.2
  have hl : lv_has ls 3 [(0, .ref (h 0)), (1, .int (nI n)), (2, .int (nI b))] := hl
  refine lv_aload_n hx hb dX2_takeFromOthers_0 rfl (lv_at hl 0 rfl) ?_
  refine md_g3 hX hI dX2_takeFromOthers_1 ?_
  refine lv_iload_n hx hb dX2_takeFromOthers_4 rfl (lv_at hl 2 rfl) ?_
  refine ob_ld hX hI 3 rfl (b) (by omega) (by decide) dX2_takeFromOthers_5 ?_
  refine lv_if_lt (tgt := 31) hx hb dX2_takeFromOthers_6 (by decide) (fun q => ?_) (fun q => ?_)
  · skip
    exact hret _ _ _ _ _ (by unfold mdT; rw [if_pos (Or.inl q)]) hI dX2_takeFromOthers_31
  · skip
    refine lv_aload_n hx hb dX2_takeFromOthers_9 rfl (lv_at hl 0 rfl) ?_
    refine md_g3 hX hI dX2_takeFromOthers_10 ?_
    refine lv_iload_n hx hb dX2_takeFromOthers_13 rfl (lv_at hl 2 rfl) ?_
    refine ob_ld hX hI 3 rfl (b) (by omega) (by decide) dX2_takeFromOthers_14 ?_
    refine lv_iload_n hx hb dX2_takeFromOthers_15 rfl (lv_at hl 1 rfl) ?_
    refine lv_icmp_eq (tgt := 31) hx hb dX2_takeFromOthers_16 (by decide) (fun q2 => ?_) (fun q2 => ?_)
    · skip
      exact hret _ _ _ _ _ (by unfold mdT; rw [if_pos (Or.inr q2)]) hI dX2_takeFromOthers_31
    · skip
      refine lv_aload_n hx hb dX2_takeFromOthers_19 rfl (lv_at hl 0 rfl) ?_
      refine lv_aload_n hx hb dX2_takeFromOthers_20 rfl (lv_at hl 0 rfl) ?_
      refine md_g3 hX hI dX2_takeFromOthers_21 ?_
      refine lv_iload_n hx hb dX2_takeFromOthers_24 rfl (lv_at hl 2 rfl) ?_
      refine ob_ld hX hI 3 rfl (b) (by omega) (by decide) dX2_takeFromOthers_25 ?_
      refine lv_iconst (v := 1) hx hb dX2_takeFromOthers_26 (by decide) ?_
      refine ob_calli hX hAA hI rfl (M2_settle l D h d (μ 3 b) 1 μ) (cwX2_settle hts rfl rfl ⟨by decide, by decide⟩) rfl hl.1 (rest := []) (by simp [Value.category]) rfl dX2_takeFromOthers_27 (fun v1 σ1 H locs hp hI => ?_)
      refine lv_pop hx hb dX2_takeFromOthers_30 rfl ?_
      exact hret _ _ _ _ _ (by unfold mdT; rw [if_neg (fun z => z.elim q q2)]; exact hp.1) hI dX2_takeFromOthers_31
set_option maxHeartbeats 4000000 in
/-- how many open writes -/
theorem M2_openCount (l : Launch) (D : va_G) (h : Nat → Nat) (d : Nat → ClassId) (x : Int32) (μ : FS) : ob_Mi l yX2_unsafe cX2_unsafe 4 (some .int) rmX2_unsafe D 1 [] mdKs h d μ [.int x] (fun v σ1 => gX 3 x (v = -1 ∧ σ1 = μ) (fun n => v = nI (ocx μ (nI n)) ∧ σ1 = μ)) := by
  refine ob_ofWi (C := RX2) (by decide) rfl (Nat.le_of_ble_eq_true rfl) ?_
  intro p e s m args below meth c A Q ls hX hAA hI hret hl
  have hx := hX.1.1
  have hb := hX.1.2.1
  have hts := hX.1.2.2.2.2
  have hl : lv_has ls 4 [(0, .ref (h 0)), (1, .int x)] := hl
  refine lv_aload_n hx hb dX2_unsafe_0 rfl (lv_at hl 0 rfl) ?_
  refine lv_iload_n hx hb dX2_unsafe_1 rfl (lv_at hl 1 rfl) ?_
  refine ob_calli hX hAA hI rfl (M2_isNode l D h d x μ) (cwX2_isNode hts rfl rfl ⟨by decide, by decide⟩) rfl hl.1 (rest := []) (by simp [Value.category]) rfl dX2_unsafe_2 (fun v0 σ0 H locs hp hI => ?_)
  obtain ⟨hs0, hp⟩ := hp
  rw [hs0] at hI
  rcases hp with ⟨rfl, n, hn, rfl⟩ | ⟨rfl, hout⟩
  · skip
    refine lv_if_ne (tgt := 10) hx hb dX2_unsafe_5 (by decide) (fun q0 => ?_) (fun q0 => ?_)
    · skip
      refine lv_iconst (v := nI 0) hx hb dX2_unsafe_10 (by decide) ?_
      refine lv_istore_n (lv' := [(2, .int (nI 0)), (0, .ref (h 0)), (1, .int (nI n))]) hx hb dX2_unsafe_11 rfl hl (by decide) rfl (fun ls hl => ?_)
      refine lv_iconst (v := nI 0) hx hb dX2_unsafe_12 (by decide) ?_
      refine lv_istore_n (lv' := [(3, .int (nI 0)), (2, .int (nI 0)), (0, .ref (h 0)), (1, .int (nI n))]) hx hb dX2_unsafe_13 rfl hl (by decide) rfl (fun ls hl => ?_)
      have loop : ∀ (k i a : Nat) (ls : Array Slot), 16 < i + k → i ≤ 16 → a = fb_ct (fun b => decide (μ 3 b = nI n)) i → lv_has ls 4 [(3, .int (nI i)), (2, .int (nI a)), (0, .ref (h 0)), (1, .int (nI n))] → W p l e rmX2_unsafe s m args below meth c H locs 0 0 Q (F0 m 14 ls []) := by
        intro k
        induction k with
        | zero => intro i a ls h1 h2; exact absurd h1 (by omega)
        | succ k ih =>
          intro i a ls hk hi hav hl
          refine lv_iload_n hx hb dX2_unsafe_14 rfl (lv_at hl 0 rfl) ?_
          refine lv_bipush (v := nI 16) hx hb dX2_unsafe_15 (by decide) ?_
          refine n_icmp_ge (tgt := 39) hx hb dX2_unsafe_17 (by decide) (by omega) (by omega) (fun q => ?_) (fun q => ?_)
          · skip
            have hi16 : i = 16 := by omega
            subst hi16
            refine lv_iload_n hx hb dX2_unsafe_39 rfl (lv_at hl 1 rfl) ?_
            exact hret _ _ _ _ _ _ (Or.inr ⟨n, hn, rfl, by rw [hav]; rfl, rfl⟩) hI dX2_unsafe_40
          · skip
            refine lv_aload_n hx hb dX2_unsafe_20 rfl (lv_at hl 2 rfl) ?_
            refine md_g3 hX hI dX2_unsafe_21 ?_
            refine lv_iload_n hx hb dX2_unsafe_24 rfl (lv_at hl 0 rfl) ?_
            refine ob_ld hX hI 3 rfl (i) (by omega) (by decide) dX2_unsafe_25 ?_
            refine lv_iload_n hx hb dX2_unsafe_26 rfl (lv_at hl 3 rfl) ?_
            refine lv_icmp_ne (tgt := 33) hx hb dX2_unsafe_27 (by decide) (fun q2 => ?_) (fun q2 => ?_)
            · skip
              refine n_iinc (k := 0) (lv' := [(3, .int (nI (i + 1))), (2, .int (nI a)), (0, .ref (h 0)), (1, .int (nI n))]) hx hb dX2_unsafe_33 hl rfl (by decide) rfl (fun ls hl => ?_)
              refine lv_goto (tgt := 14) hx hb dX2_unsafe_36 (by decide) ?_
              exact ih (i + 1) a ls (by omega) (by omega) (by rw [hav, fb_ct_succ]; simp [q2]) hl
            · skip
              refine n_iinc (k := 1) (lv' := [(2, .int (nI (a + 1))), (3, .int (nI i)), (0, .ref (h 0)), (1, .int (nI n))]) hx hb dX2_unsafe_30 hl rfl (by decide) rfl (fun ls hl => ?_)
              refine n_iinc (k := 1) (lv' := [(3, .int (nI (i + 1))), (2, .int (nI (a + 1))), (0, .ref (h 0)), (1, .int (nI n))]) hx hb dX2_unsafe_33 hl rfl (by decide) rfl (fun ls hl => ?_)
              refine lv_goto (tgt := 14) hx hb dX2_unsafe_36 (by decide) ?_
              exact ih (i + 1) (a + 1) ls (by omega) (by omega) (by rw [hav, fb_ct_succ]; simp [q2]) (lv_sub hl [0, 1, 2, 3] rfl)
      exact loop 17 0 0 ls (by omega) (Nat.zero_le _) rfl hl
    · exact absurd q0 (by decide)
  · skip
    refine lv_if_ne (tgt := 10) hx hb dX2_unsafe_5 (by decide) (fun q0 => ?_) (fun q0 => ?_)
    · exact absurd rfl q0
    · skip
      refine lv_iconst (v := (-1)) hx hb dX2_unsafe_8 (by decide) ?_
      exact hret _ _ _ _ _ _ (Or.inl ⟨hout, rfl, rfl⟩) hI dX2_unsafe_9
set_option maxHeartbeats 4000000 in
/-- read -/
theorem M2_read (l : Launch) (D : va_G) (h : Nat → Nat) (d : Nat → ClassId) (x y : Int32) (μ : FS) : ob_Mi l yX2_read cX2_read 4 (some .int) rmX2_read D 1 [] mdKs h d μ [.int x, .int y] (fun v σ1 => gX 3 x (v = -1 ∧ σ1 = μ) (fun n => gX 16 y (v = -2 ∧ σ1 = μ) (fun b => (μ 4 n ≠ 0 ∧ v = -3 ∧ σ1 = μ) ∨ (μ 4 n = 0 ∧ v = mdT μ n b 1 b ∧ σ1 = mdT μ n b)))) := by
  refine ob_ofWi (C := RX2) (by decide) rfl (Nat.le_of_ble_eq_true rfl) ?_
  intro p e s m args below meth c A Q ls hX hAA hI hret hl
  have hx := hX.1.1
  have hb := hX.1.2.1
  have hts := hX.1.2.2.2.2
  have hl : lv_has ls 4 [(0, .ref (h 0)), (1, .int x), (2, .int y)] := hl
  refine lv_aload_n hx hb dX2_read_0 rfl (lv_at hl 0 rfl) ?_
  refine lv_iload_n hx hb dX2_read_1 rfl (lv_at hl 1 rfl) ?_
  refine lv_iload_n hx hb dX2_read_2 rfl (lv_at hl 2 rfl) ?_
  refine lv_iload_n hx hb dX2_read_3 rfl (lv_at hl 2 rfl) ?_
  refine ob_calli hX hAA hI rfl (M2_refusal l D h d x y y μ) (cwX2_refusal hts rfl rfl ⟨by decide, by decide⟩) rfl hl.1 (rest := []) (by simp [Value.category]) rfl dX2_read_4 (fun v0 σ0 H locs hp hI => ?_)
  obtain ⟨hs0, hp⟩ := hp
  rw [hs0] at hI
  rcases hp with ⟨hout, rfl⟩ | ⟨n, hn, rfl, hp⟩
  · skip
    refine lv_istore_n (lv' := [(3, .int ((-1))), (0, .ref (h 0)), (1, .int x), (2, .int y)]) hx hb dX2_read_7 rfl hl (by decide) rfl (fun ls hl => ?_)
    refine lv_iload_n hx hb dX2_read_8 rfl (lv_at hl 0 rfl) ?_
    refine lv_if_ge (tgt := 14) hx hb dX2_read_9 (by decide) (fun q0 => ?_) (fun q0 => ?_)
    · exact absurd q0 (by decide)
    · skip
      refine lv_iload_n hx hb dX2_read_12 rfl (lv_at hl 0 rfl) ?_
      exact hret _ _ _ _ _ _ (Or.inl ⟨hout, rfl, rfl⟩) hI dX2_read_13
  · skip
    rcases hp with ⟨hout, rfl⟩ | ⟨b, hb16, rfl, hp⟩
    · skip
      refine lv_istore_n (lv' := [(3, .int ((-2))), (0, .ref (h 0)), (1, .int (nI n)), (2, .int y)]) hx hb dX2_read_7 rfl hl (by decide) rfl (fun ls hl => ?_)
      refine lv_iload_n hx hb dX2_read_8 rfl (lv_at hl 0 rfl) ?_
      refine lv_if_ge (tgt := 14) hx hb dX2_read_9 (by decide) (fun q0 => ?_) (fun q0 => ?_)
      · exact absurd q0 (by decide)
      · skip
        refine lv_iload_n hx hb dX2_read_12 rfl (lv_at hl 0 rfl) ?_
        exact hret _ _ _ _ _ _ (Or.inr ⟨n, hn, rfl, Or.inl ⟨hout, rfl, rfl⟩⟩) hI dX2_read_13
    · skip
      rw [gX_in (by decide) hb16] at hp
      rcases hp with ⟨hdn, rfl⟩ | ⟨hdn, rfl⟩
      · skip
        refine lv_istore_n (lv' := [(3, .int ((-3))), (0, .ref (h 0)), (1, .int (nI n)), (2, .int (nI b))]) hx hb dX2_read_7 rfl hl (by decide) rfl (fun ls hl => ?_)
        refine lv_iload_n hx hb dX2_read_8 rfl (lv_at hl 0 rfl) ?_
        refine lv_if_ge (tgt := 14) hx hb dX2_read_9 (by decide) (fun q0 => ?_) (fun q0 => ?_)
        · exact absurd q0 (by decide)
        · skip
          refine lv_iload_n hx hb dX2_read_12 rfl (lv_at hl 0 rfl) ?_
          exact hret _ _ _ _ _ _ (Or.inr ⟨n, hn, rfl, Or.inr ⟨b, hb16, rfl, Or.inl ⟨hdn, rfl, rfl⟩⟩⟩) hI dX2_read_13
      · skip
        refine lv_istore_n (lv' := [(3, .int 0), (0, .ref (h 0)), (1, .int (nI n)), (2, .int (nI b))]) hx hb dX2_read_7 rfl hl (by decide) rfl (fun ls hl => ?_)
        refine lv_iload_n hx hb dX2_read_8 rfl (lv_at hl 0 rfl) ?_
        refine lv_if_ge (tgt := 14) hx hb dX2_read_9 (by decide) (fun q0 => ?_) (fun q0 => ?_)
        · skip
          refine lv_aload_n hx hb dX2_read_14 rfl (lv_at hl 1 rfl) ?_
          refine lv_iload_n hx hb dX2_read_15 rfl (lv_at hl 2 rfl) ?_
          refine lv_iload_n hx hb dX2_read_16 rfl (lv_at hl 3 rfl) ?_
          refine ob_callv hX hAA hI rfl (M2_take l D h d n b hn hb16 μ) (cwX2_takeFromOthers hts rfl rfl ⟨by decide, by decide⟩) rfl hl.1 (rest := []) (by simp [Value.category]) rfl dX2_read_17 (fun σ1 H locs hp hI => ?_)
          subst hp
          refine lv_aload_n hx hb dX2_read_20 rfl (lv_at hl 1 rfl) ?_
          refine md_g1 hX hI dX2_read_21 ?_
          refine lv_iload_n hx hb dX2_read_24 rfl (lv_at hl 3 rfl) ?_
          refine ob_ld hX hI 1 rfl (b) (by omega) (by decide) dX2_read_25 ?_
          exact hret _ _ _ _ _ _ (Or.inr ⟨n, hn, rfl, Or.inr ⟨b, hb16, rfl, Or.inr ⟨hdn, rfl, rfl⟩⟩⟩) hI dX2_read_26
        · exact absurd (by decide) q0
set_option maxHeartbeats 4000000 in
/-- write -/
theorem M2_write (l : Launch) (D : va_G) (h : Nat → Nat) (d : Nat → ClassId) (x y z : Int32) (μ : FS) : ob_Mi l yX2_write cX2_write 5 (some .int) rmX2_write D 1 [] mdKs h d μ [.int x, .int y, .int z] (fun v σ1 => gX 3 x (v = -1 ∧ σ1 = μ) (fun n => gX 16 y (v = -2 ∧ σ1 = μ) (fun b => (μ 4 n ≠ 0 ∧ v = -3 ∧ σ1 = μ) ∨ (μ 4 n = 0 ∧ v = nI (ocx (mdW μ n b z) (nI n)) ∧ σ1 = mdW μ n b z)))) := by
  refine ob_ofWi (C := RX2) (by decide) rfl (Nat.le_of_ble_eq_true rfl) ?_
  intro p e s m args below meth c A Q ls hX hAA hI hret hl
  have hx := hX.1.1
  have hb := hX.1.2.1
  have hts := hX.1.2.2.2.2
  have hl : lv_has ls 5 [(0, .ref (h 0)), (1, .int x), (2, .int y), (3, .int z)] := hl
  refine lv_aload_n hx hb dX2_write_0 rfl (lv_at hl 0 rfl) ?_
  refine lv_iload_n hx hb dX2_write_1 rfl (lv_at hl 1 rfl) ?_
  refine lv_iload_n hx hb dX2_write_2 rfl (lv_at hl 2 rfl) ?_
  refine lv_iload_n hx hb dX2_write_3 rfl (lv_at hl 2 rfl) ?_
  refine ob_calli hX hAA hI rfl (M2_refusal l D h d x y y μ) (cwX2_refusal hts rfl rfl ⟨by decide, by decide⟩) rfl hl.1 (rest := []) (by simp [Value.category]) rfl dX2_write_4 (fun v0 σ0 H locs hp hI => ?_)
  obtain ⟨hs0, hp⟩ := hp
  rw [hs0] at hI
  rcases hp with ⟨hout, rfl⟩ | ⟨n, hn, rfl, hp⟩
  · skip
    refine lv_istore (lv' := [(4, .int ((-1))), (0, .ref (h 0)), (1, .int x), (2, .int y), (3, .int z)]) hx hb dX2_write_7 hl (by decide) rfl (fun ls hl => ?_)
    refine lv_iload hx hb dX2_write_9 (lv_at hl 0 rfl) ?_
    refine lv_if_ge (tgt := 17) hx hb dX2_write_11 (by decide) (fun q0 => ?_) (fun q0 => ?_)
    · exact absurd q0 (by decide)
    · skip
      refine lv_iload hx hb dX2_write_14 (lv_at hl 0 rfl) ?_
      exact hret _ _ _ _ _ _ (Or.inl ⟨hout, rfl, rfl⟩) hI dX2_write_16
  · skip
    rcases hp with ⟨hout, rfl⟩ | ⟨b, hb16, rfl, hp⟩
    · skip
      refine lv_istore (lv' := [(4, .int ((-2))), (0, .ref (h 0)), (1, .int (nI n)), (2, .int y), (3, .int z)]) hx hb dX2_write_7 hl (by decide) rfl (fun ls hl => ?_)
      refine lv_iload hx hb dX2_write_9 (lv_at hl 0 rfl) ?_
      refine lv_if_ge (tgt := 17) hx hb dX2_write_11 (by decide) (fun q0 => ?_) (fun q0 => ?_)
      · exact absurd q0 (by decide)
      · skip
        refine lv_iload hx hb dX2_write_14 (lv_at hl 0 rfl) ?_
        exact hret _ _ _ _ _ _ (Or.inr ⟨n, hn, rfl, Or.inl ⟨hout, rfl, rfl⟩⟩) hI dX2_write_16
    · skip
      rw [gX_in (by decide) hb16] at hp
      rcases hp with ⟨hdn, rfl⟩ | ⟨hdn, rfl⟩
      · skip
        refine lv_istore (lv' := [(4, .int ((-3))), (0, .ref (h 0)), (1, .int (nI n)), (2, .int (nI b)), (3, .int z)]) hx hb dX2_write_7 hl (by decide) rfl (fun ls hl => ?_)
        refine lv_iload hx hb dX2_write_9 (lv_at hl 0 rfl) ?_
        refine lv_if_ge (tgt := 17) hx hb dX2_write_11 (by decide) (fun q0 => ?_) (fun q0 => ?_)
        · exact absurd q0 (by decide)
        · skip
          refine lv_iload hx hb dX2_write_14 (lv_at hl 0 rfl) ?_
          exact hret _ _ _ _ _ _ (Or.inr ⟨n, hn, rfl, Or.inr ⟨b, hb16, rfl, Or.inl ⟨hdn, rfl, rfl⟩⟩⟩) hI dX2_write_16
      · skip
        refine lv_istore (lv' := [(4, .int 0), (0, .ref (h 0)), (1, .int (nI n)), (2, .int (nI b)), (3, .int z)]) hx hb dX2_write_7 hl (by decide) rfl (fun ls hl => ?_)
        refine lv_iload hx hb dX2_write_9 (lv_at hl 0 rfl) ?_
        refine lv_if_ge (tgt := 17) hx hb dX2_write_11 (by decide) (fun q0 => ?_) (fun q0 => ?_)
        · skip
          refine lv_aload_n hx hb dX2_write_17 rfl (lv_at hl 1 rfl) ?_
          refine lv_iload_n hx hb dX2_write_18 rfl (lv_at hl 2 rfl) ?_
          refine lv_iload_n hx hb dX2_write_19 rfl (lv_at hl 3 rfl) ?_
          refine ob_callv hX hAA hI rfl (M2_take l D h d n b hn hb16 μ) (cwX2_takeFromOthers hts rfl rfl ⟨by decide, by decide⟩) rfl hl.1 (rest := []) (by simp [Value.category]) rfl dX2_write_20 (fun σ1 H locs hp hI => ?_)
          subst hp
          refine lv_aload_n hx hb dX2_write_23 rfl (lv_at hl 1 rfl) ?_
          refine md_g1 hX hI dX2_write_24 ?_
          refine lv_iload_n hx hb dX2_write_27 rfl (lv_at hl 3 rfl) ?_
          refine lv_iload_n hx hb dX2_write_28 rfl (lv_at hl 4 rfl) ?_
          refine ob_st hX hI 1 rfl (b) (by omega) (by decide) dX2_write_29 (fun H locs hI => ?_)
          refine lv_aload_n hx hb dX2_write_30 rfl (lv_at hl 1 rfl) ?_
          refine md_g3 hX hI dX2_write_31 ?_
          refine lv_iload_n hx hb dX2_write_34 rfl (lv_at hl 3 rfl) ?_
          refine lv_iload_n hx hb dX2_write_35 rfl (lv_at hl 2 rfl) ?_
          refine ob_st hX hI 3 rfl (b) (by omega) (by decide) dX2_write_36 (fun H locs hI => ?_)
          refine lv_aload_n hx hb dX2_write_37 rfl (lv_at hl 1 rfl) ?_
          refine lv_iload_n hx hb dX2_write_38 rfl (lv_at hl 2 rfl) ?_
          refine ob_calli hX hAA hI rfl (M2_openCount l D h d (nI n) _) (cwX2_unsafe hts rfl rfl ⟨by decide, by decide⟩) rfl hl.1 (rest := []) (by simp [Value.category]) rfl dX2_write_39 (fun v2 σ2 H locs hp hI => ?_)
          rw [gX_in (by decide) hn] at hp
          exact hret _ _ _ _ _ _ (Or.inr ⟨n, hn, rfl, Or.inr ⟨b, hb16, rfl, Or.inr ⟨hdn, hp.1, hp.2⟩⟩⟩) hI dX2_write_42
        · exact absurd (by decide) q0
set_option maxHeartbeats 4000000 in
/-- swap -/
theorem M2_swap (l : Launch) (D : va_G) (h : Nat → Nat) (d : Nat → ClassId) (x y z : Int32) (μ : FS) : ob_Mi l yX2_swap cX2_swap 7 (some .int) rmX2_swap D 1 [] mdKs h d μ [.int x, .int y, .int z] (fun v σ1 => gX 3 x (v = -1 ∧ σ1 = μ) (fun n => gX 16 y (v = -2 ∧ σ1 = μ) (fun a => gX 16 z (v = -2 ∧ σ1 = μ) (fun b => (μ 4 n ≠ 0 ∧ v = -3 ∧ σ1 = μ) ∨ (μ 4 n = 0 ∧ ∃ μ2 μ4 : FS, μ2 = mdT (mdT μ n a) n b ∧ μ4 = mdW (mdW μ2 n a (μ2 1 b)) n b (mdT μ n a 1 a) ∧ v = nI (ocx μ4 (nI n)) ∧ σ1 = μ4))))) := by
  refine ob_ofWi (C := RX2) (by decide) rfl (Nat.le_of_ble_eq_true rfl) ?_
  intro p e s m args below meth c A Q ls hX hAA hI hret hl
  have hx := hX.1.1
  have hb := hX.1.2.1
  have hts := hX.1.2.2.2.2
  have hl : lv_has ls 7 [(0, .ref (h 0)), (1, .int x), (2, .int y), (3, .int z)] := hl
  refine lv_aload_n hx hb dX2_swap_0 rfl (lv_at hl 0 rfl) ?_
  refine lv_iload_n hx hb dX2_swap_1 rfl (lv_at hl 1 rfl) ?_
  refine lv_iload_n hx hb dX2_swap_2 rfl (lv_at hl 2 rfl) ?_
  refine lv_iload_n hx hb dX2_swap_3 rfl (lv_at hl 3 rfl) ?_
  refine ob_calli hX hAA hI rfl (M2_refusal l D h d x y z μ) (cwX2_refusal hts rfl rfl ⟨by decide, by decide⟩) rfl hl.1 (rest := []) (by simp [Value.category]) rfl dX2_swap_4 (fun v0 σ0 H locs hp hI => ?_)
  obtain ⟨hs0, hp⟩ := hp
  rw [hs0] at hI
  rcases hp with ⟨hout, rfl⟩ | ⟨n, hn, rfl, hp⟩
  · skip
    refine lv_istore (lv' := [(4, .int ((-1))), (0, .ref (h 0)), (1, .int x), (2, .int y), (3, .int z)]) hx hb dX2_swap_7 hl (by decide) rfl (fun ls hl => ?_)
    refine lv_iload hx hb dX2_swap_9 (lv_at hl 0 rfl) ?_
    refine lv_if_ge (tgt := 17) hx hb dX2_swap_11 (by decide) (fun q0 => ?_) (fun q0 => ?_)
    · exact absurd q0 (by decide)
    · skip
      refine lv_iload hx hb dX2_swap_14 (lv_at hl 0 rfl) ?_
      exact hret _ _ _ _ _ _ (Or.inl ⟨hout, rfl, rfl⟩) hI dX2_swap_16
  · skip
    rcases hp with ⟨hout, rfl⟩ | ⟨a, ha16, rfl, hp⟩
    · skip
      refine lv_istore (lv' := [(4, .int ((-2))), (0, .ref (h 0)), (1, .int (nI n)), (2, .int y), (3, .int z)]) hx hb dX2_swap_7 hl (by decide) rfl (fun ls hl => ?_)
      refine lv_iload hx hb dX2_swap_9 (lv_at hl 0 rfl) ?_
      refine lv_if_ge (tgt := 17) hx hb dX2_swap_11 (by decide) (fun q0 => ?_) (fun q0 => ?_)
      · exact absurd q0 (by decide)
      · skip
        refine lv_iload hx hb dX2_swap_14 (lv_at hl 0 rfl) ?_
        exact hret _ _ _ _ _ _ (Or.inr ⟨n, hn, rfl, Or.inl ⟨hout, rfl, rfl⟩⟩) hI dX2_swap_16
    · skip
      rcases hp with ⟨hout, rfl⟩ | ⟨b, hb16, rfl, hp⟩
      · skip
        refine lv_istore (lv' := [(4, .int ((-2))), (0, .ref (h 0)), (1, .int (nI n)), (2, .int (nI a)), (3, .int z)]) hx hb dX2_swap_7 hl (by decide) rfl (fun ls hl => ?_)
        refine lv_iload hx hb dX2_swap_9 (lv_at hl 0 rfl) ?_
        refine lv_if_ge (tgt := 17) hx hb dX2_swap_11 (by decide) (fun q0 => ?_) (fun q0 => ?_)
        · exact absurd q0 (by decide)
        · skip
          refine lv_iload hx hb dX2_swap_14 (lv_at hl 0 rfl) ?_
          exact hret _ _ _ _ _ _ (Or.inr ⟨n, hn, rfl, Or.inr ⟨a, ha16, rfl, Or.inl ⟨hout, rfl, rfl⟩⟩⟩) hI dX2_swap_16
      · rcases hp with ⟨hdn, rfl⟩ | ⟨hdn, rfl⟩
        · skip
          refine lv_istore (lv' := [(4, .int ((-3))), (0, .ref (h 0)), (1, .int (nI n)), (2, .int (nI a)), (3, .int (nI b))]) hx hb dX2_swap_7 hl (by decide) rfl (fun ls hl => ?_)
          refine lv_iload hx hb dX2_swap_9 (lv_at hl 0 rfl) ?_
          refine lv_if_ge (tgt := 17) hx hb dX2_swap_11 (by decide) (fun q0 => ?_) (fun q0 => ?_)
          · exact absurd q0 (by decide)
          · skip
            refine lv_iload hx hb dX2_swap_14 (lv_at hl 0 rfl) ?_
            exact hret _ _ _ _ _ _ (Or.inr ⟨n, hn, rfl, Or.inr ⟨a, ha16, rfl, Or.inr ⟨b, hb16, rfl, Or.inl ⟨hdn, rfl, rfl⟩⟩⟩⟩) hI dX2_swap_16
        · skip
          refine lv_istore (lv' := [(4, .int 0), (0, .ref (h 0)), (1, .int (nI n)), (2, .int (nI a)), (3, .int (nI b))]) hx hb dX2_swap_7 hl (by decide) rfl (fun ls hl => ?_)
          refine lv_iload hx hb dX2_swap_9 (lv_at hl 0 rfl) ?_
          refine lv_if_ge (tgt := 17) hx hb dX2_swap_11 (by decide) (fun q0 => ?_) (fun q0 => ?_)
          · skip
            refine lv_aload_n hx hb dX2_swap_17 rfl (lv_at hl 1 rfl) ?_
            refine lv_iload_n hx hb dX2_swap_18 rfl (lv_at hl 2 rfl) ?_
            refine lv_iload_n hx hb dX2_swap_19 rfl (lv_at hl 3 rfl) ?_
            refine ob_calli hX hAA hI rfl (M2_read l D h d (nI n) (nI a) μ) (cwX2_read hts rfl rfl ⟨by decide, by decide⟩) rfl hl.1 (rest := []) (by simp [Value.category]) rfl dX2_swap_20 (fun v1 σ1 H locs hp hI => ?_)
            rw [gX_in (by decide) hn, gX_in (by decide) ha16] at hp
            obtain ⟨-, rfl, rfl⟩ : μ 4 n = 0 ∧ v1 = mdT μ n a 1 a ∧ σ1 = mdT μ n a := by
              rcases hp with ⟨z, -⟩ | z
              · exact absurd hdn z
              · exact z
            refine lv_istore (lv' := [(5, .int (mdT μ n a 1 a)), (4, .int 0), (0, .ref (h 0)), (1, .int (nI n)), (2, .int (nI a)), (3, .int (nI b))]) hx hb dX2_swap_23 hl (by decide) rfl (fun ls hl => ?_)
            refine lv_aload_n hx hb dX2_swap_25 rfl (lv_at hl 2 rfl) ?_
            refine lv_iload_n hx hb dX2_swap_26 rfl (lv_at hl 3 rfl) ?_
            refine lv_iload_n hx hb dX2_swap_27 rfl (lv_at hl 5 rfl) ?_
            refine ob_calli hX hAA hI rfl (M2_read l D h d (nI n) (nI b) (mdT μ n a)) (cwX2_read hts rfl rfl ⟨by decide, by decide⟩) rfl hl.1 (rest := []) (by simp [Value.category]) rfl dX2_swap_28 (fun v2 σ2 H locs hp hI => ?_)
            rw [gX_in (by decide) hn, gX_in (by decide) hb16, mdT_4] at hp
            obtain ⟨hv2, hs2⟩ : v2 = mdT (mdT μ n a) n b 1 b ∧ σ2 = mdT (mdT μ n a) n b := by
              rcases hp with ⟨z, -⟩ | z
              · exact absurd hdn z
              · exact z.2
            have d2 : σ2 4 = μ 4 := by rw [hs2, mdT_4, mdT_4]
            refine lv_istore (lv' := [(6, .int v2), (5, .int (mdT μ n a 1 a)), (4, .int 0), (0, .ref (h 0)), (1, .int (nI n)), (2, .int (nI a)), (3, .int (nI b))]) hx hb dX2_swap_31 hl (by decide) rfl (fun ls hl => ?_)
            refine lv_aload_n hx hb dX2_swap_33 rfl (lv_at hl 3 rfl) ?_
            refine lv_iload_n hx hb dX2_swap_34 rfl (lv_at hl 4 rfl) ?_
            refine lv_iload_n hx hb dX2_swap_35 rfl (lv_at hl 5 rfl) ?_
            refine lv_iload hx hb dX2_swap_36 (lv_at hl 0 rfl) ?_
            refine ob_calli hX hAA hI rfl (M2_write l D h d (nI n) (nI a) v2 σ2) (cwX2_write hts rfl rfl ⟨by decide, by decide⟩) rfl hl.1 (rest := []) (by simp [Value.category]) rfl dX2_swap_38 (fun v3 σ3 H locs hp hI => ?_)
            rw [gX_in (by decide) hn, gX_in (by decide) ha16, d2] at hp
            obtain ⟨hv3, hs3⟩ : v3 = nI (ocx (mdW σ2 n a v2) (nI n)) ∧ σ3 = mdW σ2 n a v2 := by
              rcases hp with ⟨z, -⟩ | z
              · exact absurd hdn z
              · exact z.2
            have d3 : σ3 4 = μ 4 := by rw [hs3, mdW_4, d2]
            refine lv_pop hx hb dX2_swap_41 rfl ?_
            refine lv_aload_n hx hb dX2_swap_42 rfl (lv_at hl 3 rfl) ?_
            refine lv_iload_n hx hb dX2_swap_43 rfl (lv_at hl 4 rfl) ?_
            refine lv_iload_n hx hb dX2_swap_44 rfl (lv_at hl 6 rfl) ?_
            refine lv_iload hx hb dX2_swap_45 (lv_at hl 1 rfl) ?_
            refine ob_calli hX hAA hI rfl (M2_write l D h d (nI n) (nI b) (mdT μ n a 1 a) σ3) (cwX2_write hts rfl rfl ⟨by decide, by decide⟩) rfl hl.1 (rest := []) (by simp [Value.category]) rfl dX2_swap_47 (fun v4 σ4 H locs hp hI => ?_)
            rw [gX_in (by decide) hn, gX_in (by decide) hb16, d3] at hp
            obtain ⟨hv4, hs4⟩ : v4 = nI (ocx (mdW σ3 n b (mdT μ n a 1 a)) (nI n)) ∧ σ4 = mdW σ3 n b (mdT μ n a 1 a) := by
              rcases hp with ⟨z, -⟩ | z
              · exact absurd hdn z
              · exact z.2
            exact hret _ _ _ _ _ _ (Or.inr ⟨n, hn, rfl, Or.inr ⟨a, ha16, rfl, Or.inr ⟨b, hb16, rfl, Or.inr ⟨hdn, σ2, σ4, hs2, by rw [hs4, hs3, hv2, hs2], by rw [hv4, hs4], rfl⟩⟩⟩⟩) hI dX2_swap_50
          · exact absurd (by decide) q0
end
section
/-! CONTRACTS of SharedDiskFsModel: sync, crash, crashInSync, restart, powerCut, content, safe, owner, up -/
set_option maxRecDepth 100000
set_option maxHeartbeats 4000000 in
/-- sync -/
theorem M2_sync (l : Launch) (D : va_G) (h : Nat → Nat) (d : Nat → ClassId) (x : Int32) (μ : FS) : ob_Mi l yX2_sync cX2_sync 3 (some .int) rmX2_sync D 1 [] mdKs h d μ [.int x] (fun v σ1 => gX 3 x (v = -1 ∧ σ1 = μ) (fun n => (μ 4 n ≠ 0 ∧ v = -3 ∧ σ1 = μ) ∨ (μ 4 n = 0 ∧ v = nI (ocx μ (nI n)) ∧ σ1 = mdSet μ (nI n) 1 16))) := by
  refine ob_ofWi (C := RX2) (by decide) rfl (Nat.le_of_ble_eq_true rfl) ?_
  intro p e s m args below meth c A Q ls hX hAA hI hret hl
  have hx := hX.1.1
  have hb := hX.1.2.1
  have hts := hX.1.2.2.2.2
  have hl : lv_has ls 3 [(0, .ref (h 0)), (1, .int x)] := hl
  refine lv_aload_n hx hb dX2_sync_0 rfl (lv_at hl 0 rfl) ?_
  refine lv_iload_n hx hb dX2_sync_1 rfl (lv_at hl 1 rfl) ?_
  refine lv_iconst (v := nI 0) hx hb dX2_sync_2 (by decide) ?_
  refine lv_iconst (v := nI 0) hx hb dX2_sync_3 (by decide) ?_
  refine ob_calli hX hAA hI rfl (M2_refusal l D h d x (nI 0) (nI 0) μ) (cwX2_refusal hts rfl rfl ⟨by decide, by decide⟩) rfl hl.1 (rest := []) (by simp [Value.category]) rfl dX2_sync_4 (fun v0 σ0 H locs hp hI => ?_)
  obtain ⟨hs0, hp⟩ := hp
  rw [hs0] at hI
  rcases hp with ⟨hout, rfl⟩ | ⟨n, hn, rfl, hp⟩
  · skip
    refine lv_istore_n (lv' := [(2, .int ((-1))), (0, .ref (h 0)), (1, .int x)]) hx hb dX2_sync_7 rfl hl (by decide) rfl (fun ls hl => ?_)
    refine lv_iload_n hx hb dX2_sync_8 rfl (lv_at hl 0 rfl) ?_
    refine lv_if_ge (tgt := 16) hx hb dX2_sync_9 (by decide) (fun q0 => ?_) (fun q0 => ?_)
    · exact absurd q0 (by decide)
    · skip
      refine lv_iload_n hx hb dX2_sync_12 rfl (lv_at hl 0 rfl) ?_
      refine lv_goto (tgt := 22) hx hb dX2_sync_13 (by decide) ?_
      exact hret _ _ _ _ _ _ (Or.inl ⟨hout, rfl, rfl⟩) hI dX2_sync_22
  · skip
    rw [gX_in (by decide) (by decide), gX_in (by decide) (by decide)] at hp
    rcases hp with ⟨hdn, rfl⟩ | ⟨hdn, rfl⟩
    · skip
      refine lv_istore_n (lv' := [(2, .int ((-3))), (0, .ref (h 0)), (1, .int (nI n))]) hx hb dX2_sync_7 rfl hl (by decide) rfl (fun ls hl => ?_)
      refine lv_iload_n hx hb dX2_sync_8 rfl (lv_at hl 0 rfl) ?_
      refine lv_if_ge (tgt := 16) hx hb dX2_sync_9 (by decide) (fun q0 => ?_) (fun q0 => ?_)
      · exact absurd q0 (by decide)
      · skip
        refine lv_iload_n hx hb dX2_sync_12 rfl (lv_at hl 0 rfl) ?_
        refine lv_goto (tgt := 22) hx hb dX2_sync_13 (by decide) ?_
        exact hret _ _ _ _ _ _ (Or.inr ⟨n, hn, rfl, Or.inl ⟨hdn, rfl, rfl⟩⟩) hI dX2_sync_22
    · skip
      refine lv_istore_n (lv' := [(2, .int 0), (0, .ref (h 0)), (1, .int (nI n))]) hx hb dX2_sync_7 rfl hl (by decide) rfl (fun ls hl => ?_)
      refine lv_iload_n hx hb dX2_sync_8 rfl (lv_at hl 0 rfl) ?_
      refine lv_if_ge (tgt := 16) hx hb dX2_sync_9 (by decide) (fun q0 => ?_) (fun q0 => ?_)
      · skip
        refine lv_aload_n hx hb dX2_sync_16 rfl (lv_at hl 1 rfl) ?_
        refine lv_iload_n hx hb dX2_sync_17 rfl (lv_at hl 2 rfl) ?_
        refine lv_iconst (v := 1) hx hb dX2_sync_18 (by decide) ?_
        refine ob_calli hX hAA hI rfl (M2_settle l D h d (nI n) 1 μ) (cwX2_settle hts rfl rfl ⟨by decide, by decide⟩) rfl hl.1 (rest := []) (by simp [Value.category]) rfl dX2_sync_19 (fun v1 σ1 H locs hp hI => ?_)
        exact hret _ _ _ _ _ _ (Or.inr ⟨n, hn, rfl, Or.inr ⟨hdn, hp.2, hp.1⟩⟩) hI dX2_sync_22
      · exact absurd (by decide) q0
set_option maxHeartbeats 4000000 in
/-- crash in the middle of making safe -/
theorem M2_crashInSync (l : Launch) (D : va_G) (h : Nat → Nat) (d : Nat → ClassId) (x lt : Int32) (μ : FS) : ob_Mi l yX2_crashInSync cX2_crashInSync 4 (some .int) rmX2_crashInSync D 1 [] mdKs h d μ [.int x, .int lt] (fun v σ1 => gX 3 x (v = -1 ∧ σ1 = μ) (fun n => (μ 4 n ≠ 0 ∧ v = -3 ∧ σ1 = μ) ∨ (μ 4 n = 0 ∧ v = nI (ocx μ (nI n)) ∧ σ1 = mdSet (st_ μ 4 n 1) (nI n) lt 16))) := by
  refine ob_ofWi (C := RX2) (by decide) rfl (Nat.le_of_ble_eq_true rfl) ?_
  intro p e s m args below meth c A Q ls hX hAA hI hret hl
  have hx := hX.1.1
  have hb := hX.1.2.1
  have hts := hX.1.2.2.2.2
  have hl : lv_has ls 4 [(0, .ref (h 0)), (1, .int x), (2, .int lt)] := hl
  refine lv_aload_n hx hb dX2_crashInSync_0 rfl (lv_at hl 0 rfl) ?_
  refine lv_iload_n hx hb dX2_crashInSync_1 rfl (lv_at hl 1 rfl) ?_
  refine lv_iconst (v := nI 0) hx hb dX2_crashInSync_2 (by decide) ?_
  refine lv_iconst (v := nI 0) hx hb dX2_crashInSync_3 (by decide) ?_
  refine ob_calli hX hAA hI rfl (M2_refusal l D h d x (nI 0) (nI 0) μ) (cwX2_refusal hts rfl rfl ⟨by decide, by decide⟩) rfl hl.1 (rest := []) (by simp [Value.category]) rfl dX2_crashInSync_4 (fun v0 σ0 H locs hp hI => ?_)
  obtain ⟨hs0, hp⟩ := hp
  rw [hs0] at hI
  rcases hp with ⟨hout, rfl⟩ | ⟨n, hn, rfl, hp⟩
  · skip
    refine lv_istore_n (lv' := [(3, .int ((-1))), (0, .ref (h 0)), (1, .int x), (2, .int lt)]) hx hb dX2_crashInSync_7 rfl hl (by decide) rfl (fun ls hl => ?_)
    refine lv_iload_n hx hb dX2_crashInSync_8 rfl (lv_at hl 0 rfl) ?_
    refine lv_if_ge (tgt := 14) hx hb dX2_crashInSync_9 (by decide) (fun q0 => ?_) (fun q0 => ?_)
    · exact absurd q0 (by decide)
    · skip
      refine lv_iload_n hx hb dX2_crashInSync_12 rfl (lv_at hl 0 rfl) ?_
      exact hret _ _ _ _ _ _ (Or.inl ⟨hout, rfl, rfl⟩) hI dX2_crashInSync_13
  · skip
    rw [gX_in (by decide) (by decide), gX_in (by decide) (by decide)] at hp
    rcases hp with ⟨hdn, rfl⟩ | ⟨hdn, rfl⟩
    · skip
      refine lv_istore_n (lv' := [(3, .int ((-3))), (0, .ref (h 0)), (1, .int (nI n)), (2, .int lt)]) hx hb dX2_crashInSync_7 rfl hl (by decide) rfl (fun ls hl => ?_)
      refine lv_iload_n hx hb dX2_crashInSync_8 rfl (lv_at hl 0 rfl) ?_
      refine lv_if_ge (tgt := 14) hx hb dX2_crashInSync_9 (by decide) (fun q0 => ?_) (fun q0 => ?_)
      · exact absurd q0 (by decide)
      · skip
        refine lv_iload_n hx hb dX2_crashInSync_12 rfl (lv_at hl 0 rfl) ?_
        exact hret _ _ _ _ _ _ (Or.inr ⟨n, hn, rfl, Or.inl ⟨hdn, rfl, rfl⟩⟩) hI dX2_crashInSync_13
    · skip
      refine lv_istore_n (lv' := [(3, .int 0), (0, .ref (h 0)), (1, .int (nI n)), (2, .int lt)]) hx hb dX2_crashInSync_7 rfl hl (by decide) rfl (fun ls hl => ?_)
      refine lv_iload_n hx hb dX2_crashInSync_8 rfl (lv_at hl 0 rfl) ?_
      refine lv_if_ge (tgt := 14) hx hb dX2_crashInSync_9 (by decide) (fun q0 => ?_) (fun q0 => ?_)
      · skip
        refine lv_aload_n hx hb dX2_crashInSync_14 rfl (lv_at hl 1 rfl) ?_
        refine md_g4 hX hI dX2_crashInSync_15 ?_
        refine lv_iload_n hx hb dX2_crashInSync_18 rfl (lv_at hl 2 rfl) ?_
        refine lv_iconst (v := 1) hx hb dX2_crashInSync_19 (by decide) ?_
        refine ob_zst hX hI 4 rfl (n) (by omega) (by decide) (by decide) dX2_crashInSync_20 (fun H locs hI => ?_)
        refine lv_aload_n hx hb dX2_crashInSync_21 rfl (lv_at hl 1 rfl) ?_
        refine lv_iload_n hx hb dX2_crashInSync_22 rfl (lv_at hl 2 rfl) ?_
        refine lv_iload_n hx hb dX2_crashInSync_23 rfl (lv_at hl 3 rfl) ?_
        refine ob_calli hX hAA hI rfl (M2_settle l D h d (nI n) lt _) (cwX2_settle hts rfl rfl ⟨by decide, by decide⟩) rfl hl.1 (rest := []) (by simp [Value.category]) rfl dX2_crashInSync_24 (fun v1 σ1 H locs hp hI => ?_)
        exact hret _ _ _ _ _ _ (Or.inr ⟨n, hn, rfl, Or.inr ⟨hdn, hp.2, hp.1⟩⟩) hI dX2_crashInSync_27
      · exact absurd (by decide) q0
set_option maxHeartbeats 4000000 in
/-- crash -/
theorem M2_crash (l : Launch) (D : va_G) (h : Nat → Nat) (d : Nat → ClassId) (x : Int32) (μ : FS) : ob_Mi l yX2_crash cX2_crash 2 (some .int) rmX2_crash D 1 [] mdKs h d μ [.int x] (fun v σ1 => gX 3 x (v = -1 ∧ σ1 = μ) (fun n => (μ 4 n ≠ 0 ∧ v = -3 ∧ σ1 = μ) ∨ (μ 4 n = 0 ∧ v = nI (ocx μ (nI n)) ∧ σ1 = mdSet (st_ μ 4 n 1) (nI n) 0 16))) := by
  refine ob_ofWi (C := RX2) (by decide) rfl (Nat.le_of_ble_eq_true rfl) ?_
  intro p e s m args below meth c A Q ls hX hAA hI hret hl
  have hx := hX.1.1
  have hb := hX.1.2.1
  have hts := hX.1.2.2.2.2
  have hl : lv_has ls 2 [(0, .ref (h 0)), (1, .int x)] := hl
  refine lv_aload_n hx hb dX2_crash_0 rfl (lv_at hl 0 rfl) ?_
  refine lv_iload_n hx hb dX2_crash_1 rfl (lv_at hl 1 rfl) ?_
  refine lv_iconst (v := 0) hx hb dX2_crash_2 (by decide) ?_
  refine ob_calli hX hAA hI rfl (M2_crashInSync l D h d x 0 μ) (cwX2_crashInSync hts rfl rfl ⟨by decide, by decide⟩) rfl hl.1 (rest := []) (by simp [Value.category]) rfl dX2_crash_3 (fun v1 σ1 H locs hp hI => ?_)
  exact hret _ _ _ _ _ _ hp hI dX2_crash_6
set_option maxHeartbeats 4000000 in
/-- restart -/
theorem M2_restart (l : Launch) (D : va_G) (h : Nat → Nat) (d : Nat → ClassId) (x : Int32) (μ : FS) : ob_Mi l yX2_restart cX2_restart 3 (some .int) rmX2_restart D 1 [] mdKs h d μ [.int x] (fun v σ1 => gX 3 x (v = -1 ∧ σ1 = μ) (fun n => ((μ 4 n ≠ 0 ∧ v = 1) ∨ (μ 4 n = 0 ∧ v = 0)) ∧ σ1 = st_ μ 4 n 0)) := by
  refine ob_ofWi (C := RX2) (by decide) rfl (Nat.le_of_ble_eq_true rfl) ?_
  intro p e s m args below meth c A Q ls hX hAA hI hret hl
  have hx := hX.1.1
  have hb := hX.1.2.1
  have hts := hX.1.2.2.2.2
  have hl : lv_has ls 3 [(0, .ref (h 0)), (1, .int x)] := hl
  refine lv_aload_n hx hb dX2_restart_0 rfl (lv_at hl 0 rfl) ?_
  refine lv_iload_n hx hb dX2_restart_1 rfl (lv_at hl 1 rfl) ?_
  refine ob_calli hX hAA hI rfl (M2_isNode l D h d x μ) (cwX2_isNode hts rfl rfl ⟨by decide, by decide⟩) rfl hl.1 (rest := []) (by simp [Value.category]) rfl dX2_restart_2 (fun v0 σ0 H locs hp hI => ?_)
  obtain ⟨hs0, hp⟩ := hp
  rw [hs0] at hI
  rcases hp with ⟨rfl, n, hn, rfl⟩ | ⟨rfl, hout⟩
  · skip
    refine lv_if_ne (tgt := 10) hx hb dX2_restart_5 (by decide) (fun q0 => ?_) (fun q0 => ?_)
    · skip
      refine lv_aload_n hx hb dX2_restart_10 rfl (lv_at hl 0 rfl) ?_
      refine md_g4 hX hI dX2_restart_11 ?_
      refine lv_iload_n hx hb dX2_restart_14 rfl (lv_at hl 1 rfl) ?_
      refine ob_zld hX hI 4 rfl (n) (by omega) (by decide) dX2_restart_15 ?_
      refine lv_if_eq (tgt := 23) hx hb dX2_restart_16 (by decide) (fun q => ?_) (fun q => ?_)
      · skip
        refine lv_iconst (v := 0) hx hb dX2_restart_23 (by decide) ?_
        refine lv_istore_n (lv' := [(2, .int 0), (0, .ref (h 0)), (1, .int (nI n))]) hx hb dX2_restart_24 rfl hl (by decide) rfl (fun ls hl => ?_)
        refine lv_aload_n hx hb dX2_restart_25 rfl (lv_at hl 1 rfl) ?_
        refine md_g4 hX hI dX2_restart_26 ?_
        refine lv_iload_n hx hb dX2_restart_29 rfl (lv_at hl 2 rfl) ?_
        refine lv_iconst (v := 0) hx hb dX2_restart_30 (by decide) ?_
        refine ob_zst hX hI 4 rfl (n) (by omega) (by decide) (by decide) dX2_restart_31 (fun H locs hI => ?_)
        refine lv_iload_n hx hb dX2_restart_32 rfl (lv_at hl 0 rfl) ?_
        exact hret _ _ _ _ _ _ (Or.inr ⟨n, hn, rfl, Or.inr ⟨q, rfl⟩, rfl⟩) hI dX2_restart_33
      · skip
        refine lv_iconst (v := 1) hx hb dX2_restart_19 (by decide) ?_
        refine lv_goto (tgt := 24) hx hb dX2_restart_20 (by decide) ?_
        refine lv_istore_n (lv' := [(2, .int 1), (0, .ref (h 0)), (1, .int (nI n))]) hx hb dX2_restart_24 rfl hl (by decide) rfl (fun ls hl => ?_)
        refine lv_aload_n hx hb dX2_restart_25 rfl (lv_at hl 1 rfl) ?_
        refine md_g4 hX hI dX2_restart_26 ?_
        refine lv_iload_n hx hb dX2_restart_29 rfl (lv_at hl 2 rfl) ?_
        refine lv_iconst (v := 0) hx hb dX2_restart_30 (by decide) ?_
        refine ob_zst hX hI 4 rfl (n) (by omega) (by decide) (by decide) dX2_restart_31 (fun H locs hI => ?_)
        refine lv_iload_n hx hb dX2_restart_32 rfl (lv_at hl 0 rfl) ?_
        exact hret _ _ _ _ _ _ (Or.inr ⟨n, hn, rfl, Or.inl ⟨q, rfl⟩, rfl⟩) hI dX2_restart_33
    · exact absurd q0 (by decide)
  · skip
    refine lv_if_ne (tgt := 10) hx hb dX2_restart_5 (by decide) (fun q0 => ?_) (fun q0 => ?_)
    · exact absurd rfl q0
    · skip
      refine lv_iconst (v := (-1)) hx hb dX2_restart_8 (by decide) ?_
      exact hret _ _ _ _ _ _ (Or.inl ⟨hout, rfl, rfl⟩) hI dX2_restart_9
set_option maxHeartbeats 4000000 in
/-- all nodes fall and rise -/
theorem M2_powerCut (l : Launch) (D : va_G) (h : Nat → Nat) (d : Nat → ClassId) (μ : FS) : ob_Mi l yX2_powerCut cX2_powerCut 3 (some .int) rmX2_powerCut D 1 [] mdKs h d μ [] (fun v σ1 => σ1 = mdP μ 3 ∧ v = nI (mdPs μ 3)) := by
  refine ob_ofWi (C := RX2) (by decide) rfl (Nat.le_of_ble_eq_true rfl) ?_
  intro p e s m args below meth c A Q ls hX hAA hI hret hl
  have hx := hX.1.1
  have hb := hX.1.2.1
  have hts := hX.1.2.2.2.2
  have hl : lv_has ls 3 [(0, .ref (h 0))] := hl
  refine lv_iconst (v := nI 0) hx hb dX2_powerCut_0 (by decide) ?_
  refine lv_istore_n (lv' := [(1, .int (nI 0)), (0, .ref (h 0))]) hx hb dX2_powerCut_1 rfl hl (by decide) rfl (fun ls hl => ?_)
  refine lv_iconst (v := nI 0) hx hb dX2_powerCut_2 (by decide) ?_
  refine lv_istore_n (lv' := [(2, .int (nI 0)), (1, .int (nI 0)), (0, .ref (h 0))]) hx hb dX2_powerCut_3 rfl hl (by decide) rfl (fun ls hl => ?_)
  have loop : ∀ (k i a : Nat) (τ : FS) (H : Heap) (locs : List Loc) (ls : Array Slot), 3 < i + k → i ≤ 3 → τ = mdP μ i → a = mdPs μ i → ob_I D 1 [] mdKs h d τ A s.heap H locs → lv_has ls 3 [(2, .int (nI i)), (1, .int (nI a)), (0, .ref (h 0))] → W p l e rmX2_powerCut s m args below meth c H locs 0 0 Q (F0 m 4 ls []) := by
    intro k
    induction k with
    | zero => intro i a τ H locs ls h1 h2; exact absurd h1 (by omega)
    | succ k ih =>
      intro i a τ H locs ls hk hi ht hav hI hl
      refine lv_iload_n hx hb dX2_powerCut_4 rfl (lv_at hl 0 rfl) ?_
      refine lv_iconst (v := nI 3) hx hb dX2_powerCut_5 (by decide) ?_
      refine n_icmp_ge (tgt := 31) hx hb dX2_powerCut_6 (by decide) (by omega) (by omega) (fun q => ?_) (fun q => ?_)
      · skip
        have hi3 : i = 3 := by omega
        subst hi3
        refine lv_iload_n hx hb dX2_powerCut_31 rfl (lv_at hl 1 rfl) ?_
        exact hret _ _ _ _ _ _ ⟨ht, by rw [hav]⟩ hI dX2_powerCut_32
      · skip
        refine lv_iload_n hx hb dX2_powerCut_9 rfl (lv_at hl 1 rfl) ?_
        refine lv_aload_n hx hb dX2_powerCut_10 rfl (lv_at hl 2 rfl) ?_
        refine lv_iload_n hx hb dX2_powerCut_11 rfl (lv_at hl 0 rfl) ?_
        refine lv_iconst (v := 0) hx hb dX2_powerCut_12 (by decide) ?_
        refine ob_calli hX hAA hI rfl (M2_settle l D h d (nI i) 0 τ) (cwX2_settle hts rfl rfl ⟨by decide, by decide⟩) rfl hl.1 (rest := [.int (nI a)]) (by simp [Value.category]) rfl dX2_powerCut_13 (fun v1 σ1 H locs hp hI => ?_)
        obtain ⟨hs1, rfl⟩ := hp
        refine n_iadd hx hb dX2_powerCut_16 ?_
        refine lv_istore_n (lv' := [(1, .int (nI (a + (ocx τ (nI i))))), (2, .int (nI i)), (0, .ref (h 0))]) hx hb dX2_powerCut_17 rfl hl (by decide) rfl (fun ls hl => ?_)
        refine lv_aload_n hx hb dX2_powerCut_18 rfl (lv_at hl 2 rfl) ?_
        refine md_g4 hX hI dX2_powerCut_19 ?_
        refine lv_iload_n hx hb dX2_powerCut_22 rfl (lv_at hl 1 rfl) ?_
        refine lv_iconst (v := 0) hx hb dX2_powerCut_23 (by decide) ?_
        refine ob_zst hX hI 4 rfl (i) (by omega) (by decide) (by decide) dX2_powerCut_24 (fun H locs hI => ?_)
        refine n_iinc (k := 1) (lv' := [(2, .int (nI (i + 1))), (1, .int (nI (a + (ocx τ (nI i))))), (0, .ref (h 0))]) hx hb dX2_powerCut_25 hl rfl (by decide) rfl (fun ls hl => ?_)
        refine lv_goto (tgt := 4) hx hb dX2_powerCut_28 (by decide) ?_
        exact ih (i + 1) _ _ H locs ls (by omega) (by omega) (by rw [hs1, ht]; rfl) (by rw [hav, ht]; rfl) hI (lv_sub hl [0, 1, 2] rfl)
  exact loop 4 0 0 μ _ _ ls (by omega) (Nat.zero_le _) rfl rfl hI hl
set_option maxHeartbeats 4000000 in
/-- content -/
theorem M2_content (l : Launch) (D : va_G) (h : Nat → Nat) (d : Nat → ClassId) (x : Int32) (μ : FS) : ob_Mi l yX2_content cX2_content 2 (some .int) rmX2_content D 1 [] mdKs h d μ [.int x] (fun v σ1 => gX 16 x (v = -2 ∧ σ1 = μ) (fun b => v = μ 1 b ∧ σ1 = μ)) := by
  refine ob_ofWi (C := RX2) (by decide) rfl (Nat.le_of_ble_eq_true rfl) ?_
  intro p e s m args below meth c A Q ls hX hAA hI hret hl
  have hx := hX.1.1
  have hb := hX.1.2.1
  have hts := hX.1.2.2.2.2
  have hl : lv_has ls 2 [(0, .ref (h 0)), (1, .int x)] := hl
  refine lv_aload_n hx hb dX2_content_0 rfl (lv_at hl 0 rfl) ?_
  refine lv_iload_n hx hb dX2_content_1 rfl (lv_at hl 1 rfl) ?_
  refine ob_calli hX hAA hI rfl (M2_isBlock l D h d x μ) (cwX2_isBlock hts rfl rfl ⟨by decide, by decide⟩) rfl hl.1 (rest := []) (by simp [Value.category]) rfl dX2_content_2 (fun v0 σ0 H locs hp hI => ?_)
  obtain ⟨hs0, hp⟩ := hp
  rw [hs0] at hI
  rcases hp with ⟨rfl, b, hb16, rfl⟩ | ⟨rfl, hout⟩
  · skip
    refine lv_if_eq (tgt := 17) hx hb dX2_content_5 (by decide) (fun q0 => ?_) (fun q0 => ?_)
    · exact absurd q0 (by decide)
    · skip
      refine lv_aload_n hx hb dX2_content_8 rfl (lv_at hl 0 rfl) ?_
      refine md_g1 hX hI dX2_content_9 ?_
      refine lv_iload_n hx hb dX2_content_12 rfl (lv_at hl 1 rfl) ?_
      refine ob_ld hX hI 1 rfl (b) (by omega) (by decide) dX2_content_13 ?_
      refine lv_goto (tgt := 19) hx hb dX2_content_14 (by decide) ?_
      exact hret _ _ _ _ _ _ (Or.inr ⟨b, hb16, rfl, rfl, rfl⟩) hI dX2_content_19
  · skip
    refine lv_if_eq (tgt := 17) hx hb dX2_content_5 (by decide) (fun q0 => ?_) (fun q0 => ?_)
    · skip
      refine lv_bipush (v := (-2)) hx hb dX2_content_17 (by decide) ?_
      exact hret _ _ _ _ _ _ (Or.inl ⟨hout, rfl, rfl⟩) hI dX2_content_19
    · exact absurd rfl q0
set_option maxHeartbeats 4000000 in
/-- safe -/
theorem M2_safe (l : Launch) (D : va_G) (h : Nat → Nat) (d : Nat → ClassId) (x : Int32) (μ : FS) : ob_Mi l yX2_safe cX2_safe 2 (some .int) rmX2_safe D 1 [] mdKs h d μ [.int x] (fun v σ1 => gX 16 x (v = -2 ∧ σ1 = μ) (fun b => v = μ 2 b ∧ σ1 = μ)) := by
  refine ob_ofWi (C := RX2) (by decide) rfl (Nat.le_of_ble_eq_true rfl) ?_
  intro p e s m args below meth c A Q ls hX hAA hI hret hl
  have hx := hX.1.1
  have hb := hX.1.2.1
  have hts := hX.1.2.2.2.2
  have hl : lv_has ls 2 [(0, .ref (h 0)), (1, .int x)] := hl
  refine lv_aload_n hx hb dX2_safe_0 rfl (lv_at hl 0 rfl) ?_
  refine lv_iload_n hx hb dX2_safe_1 rfl (lv_at hl 1 rfl) ?_
  refine ob_calli hX hAA hI rfl (M2_isBlock l D h d x μ) (cwX2_isBlock hts rfl rfl ⟨by decide, by decide⟩) rfl hl.1 (rest := []) (by simp [Value.category]) rfl dX2_safe_2 (fun v0 σ0 H locs hp hI => ?_)
  obtain ⟨hs0, hp⟩ := hp
  rw [hs0] at hI
  rcases hp with ⟨rfl, b, hb16, rfl⟩ | ⟨rfl, hout⟩
  · skip
    refine lv_if_eq (tgt := 17) hx hb dX2_safe_5 (by decide) (fun q0 => ?_) (fun q0 => ?_)
    · exact absurd q0 (by decide)
    · skip
      refine lv_aload_n hx hb dX2_safe_8 rfl (lv_at hl 0 rfl) ?_
      refine md_g2 hX hI dX2_safe_9 ?_
      refine lv_iload_n hx hb dX2_safe_12 rfl (lv_at hl 1 rfl) ?_
      refine ob_ld hX hI 2 rfl (b) (by omega) (by decide) dX2_safe_13 ?_
      refine lv_goto (tgt := 19) hx hb dX2_safe_14 (by decide) ?_
      exact hret _ _ _ _ _ _ (Or.inr ⟨b, hb16, rfl, rfl, rfl⟩) hI dX2_safe_19
  · skip
    refine lv_if_eq (tgt := 17) hx hb dX2_safe_5 (by decide) (fun q0 => ?_) (fun q0 => ?_)
    · skip
      refine lv_bipush (v := (-2)) hx hb dX2_safe_17 (by decide) ?_
      exact hret _ _ _ _ _ _ (Or.inl ⟨hout, rfl, rfl⟩) hI dX2_safe_19
    · exact absurd rfl q0
set_option maxHeartbeats 4000000 in
/-- owner -/
theorem M2_owner (l : Launch) (D : va_G) (h : Nat → Nat) (d : Nat → ClassId) (x : Int32) (μ : FS) : ob_Mi l yX2_owner cX2_owner 2 (some .int) rmX2_owner D 1 [] mdKs h d μ [.int x] (fun v σ1 => gX 16 x (v = -2 ∧ σ1 = μ) (fun b => v = μ 3 b ∧ σ1 = μ)) := by
  refine ob_ofWi (C := RX2) (by decide) rfl (Nat.le_of_ble_eq_true rfl) ?_
  intro p e s m args below meth c A Q ls hX hAA hI hret hl
  have hx := hX.1.1
  have hb := hX.1.2.1
  have hts := hX.1.2.2.2.2
  have hl : lv_has ls 2 [(0, .ref (h 0)), (1, .int x)] := hl
  refine lv_aload_n hx hb dX2_owner_0 rfl (lv_at hl 0 rfl) ?_
  refine lv_iload_n hx hb dX2_owner_1 rfl (lv_at hl 1 rfl) ?_
  refine ob_calli hX hAA hI rfl (M2_isBlock l D h d x μ) (cwX2_isBlock hts rfl rfl ⟨by decide, by decide⟩) rfl hl.1 (rest := []) (by simp [Value.category]) rfl dX2_owner_2 (fun v0 σ0 H locs hp hI => ?_)
  obtain ⟨hs0, hp⟩ := hp
  rw [hs0] at hI
  rcases hp with ⟨rfl, b, hb16, rfl⟩ | ⟨rfl, hout⟩
  · skip
    refine lv_if_eq (tgt := 17) hx hb dX2_owner_5 (by decide) (fun q0 => ?_) (fun q0 => ?_)
    · exact absurd q0 (by decide)
    · skip
      refine lv_aload_n hx hb dX2_owner_8 rfl (lv_at hl 0 rfl) ?_
      refine md_g3 hX hI dX2_owner_9 ?_
      refine lv_iload_n hx hb dX2_owner_12 rfl (lv_at hl 1 rfl) ?_
      refine ob_ld hX hI 3 rfl (b) (by omega) (by decide) dX2_owner_13 ?_
      refine lv_goto (tgt := 19) hx hb dX2_owner_14 (by decide) ?_
      exact hret _ _ _ _ _ _ (Or.inr ⟨b, hb16, rfl, rfl, rfl⟩) hI dX2_owner_19
  · skip
    refine lv_if_eq (tgt := 17) hx hb dX2_owner_5 (by decide) (fun q0 => ?_) (fun q0 => ?_)
    · skip
      refine lv_bipush (v := (-2)) hx hb dX2_owner_17 (by decide) ?_
      exact hret _ _ _ _ _ _ (Or.inl ⟨hout, rfl, rfl⟩) hI dX2_owner_19
    · exact absurd rfl q0
set_option maxHeartbeats 4000000 in
/-- up -/
theorem M2_up (l : Launch) (D : va_G) (h : Nat → Nat) (d : Nat → ClassId) (x : Int32) (μ : FS) : ob_Mi l yX2_up cX2_up 2 (some .boolean) rmX2_up D 1 [] mdKs h d μ [.int x] (fun v σ1 => gX 3 x (v = 0 ∧ σ1 = μ) (fun n => ((μ 4 n ≠ 0 ∧ v = 0) ∨ (μ 4 n = 0 ∧ v = 1)) ∧ σ1 = μ)) := by
  refine ob_ofWz (C := RX2) (by decide) rfl (Nat.le_of_ble_eq_true rfl) ?_
  intro p e s m args below meth c A Q ls hX hAA hI hret hl
  have hx := hX.1.1
  have hb := hX.1.2.1
  have hts := hX.1.2.2.2.2
  have hl : lv_has ls 2 [(0, .ref (h 0)), (1, .int x)] := hl
  refine lv_aload_n hx hb dX2_up_0 rfl (lv_at hl 0 rfl) ?_
  refine lv_iload_n hx hb dX2_up_1 rfl (lv_at hl 1 rfl) ?_
  refine ob_calli hX hAA hI rfl (M2_isNode l D h d x μ) (cwX2_isNode hts rfl rfl ⟨by decide, by decide⟩) rfl hl.1 (rest := []) (by simp [Value.category]) rfl dX2_up_2 (fun v0 σ0 H locs hp hI => ?_)
  obtain ⟨hs0, hp⟩ := hp
  rw [hs0] at hI
  rcases hp with ⟨rfl, n, hn, rfl⟩ | ⟨rfl, hout⟩
  · skip
    refine lv_if_eq (tgt := 21) hx hb dX2_up_5 (by decide) (fun q0 => ?_) (fun q0 => ?_)
    · exact absurd q0 (by decide)
    · skip
      refine lv_aload_n hx hb dX2_up_8 rfl (lv_at hl 0 rfl) ?_
      refine md_g4 hX hI dX2_up_9 ?_
      refine lv_iload_n hx hb dX2_up_12 rfl (lv_at hl 1 rfl) ?_
      refine ob_zld hX hI 4 rfl (n) (by omega) (by decide) dX2_up_13 ?_
      refine lv_if_ne (tgt := 21) hx hb dX2_up_14 (by decide) (fun q => ?_) (fun q => ?_)
      · skip
        refine lv_iconst (v := 0) hx hb dX2_up_21 (by decide) ?_
        exact hret _ _ _ _ _ _ rfl (Or.inr ⟨n, hn, rfl, Or.inl ⟨q, rfl⟩, rfl⟩) hI dX2_up_22
      · skip
        refine lv_iconst (v := 1) hx hb dX2_up_17 (by decide) ?_
        refine lv_goto (tgt := 22) hx hb dX2_up_18 (by decide) ?_
        exact hret _ _ _ _ _ _ rfl (Or.inr ⟨n, hn, rfl, Or.inr ⟨q, rfl⟩, rfl⟩) hI dX2_up_22
  · skip
    refine lv_if_eq (tgt := 21) hx hb dX2_up_5 (by decide) (fun q0 => ?_) (fun q0 => ?_)
    · skip
      refine lv_iconst (v := 0) hx hb dX2_up_21 (by decide) ?_
      exact hret _ _ _ _ _ _ rfl (Or.inl ⟨hout, rfl, rfl⟩) hI dX2_up_22
    · exact absurd rfl q0
end
section
/-! CONTRACTS of the two constructors -/
set_option maxRecDepth 100000
def fs_ini (σ : FS) : Prop := (∀ i, i < 24 → σ 9 i = -1) ∧ (∀ n, n < 3 → σ 1 n = 1) ∧ ∀ k, k ≠ 9 → k ≠ 1 → ∀ i, σ k i = 0
def fs_iniP (h0 : Nat) (u : ((Nat → Nat) × (Nat → ClassId) × Nat × FS)) : Prop := u.1 0 = h0 ∧ 2 ≤ u.2.2.1 ∧ u.2.2.1 ≤ 8 ∧ fs_ini u.2.2.2
def fs_iniB (D : va_G) (A : Nat → Prop) (u : ((Nat → Nat) × (Nat → ClassId) × Nat × FS)) (t : State) : Prop := ob_B D 0 [.int (nI u.2.2.1)] fsKs u.1 u.2.1 A u.2.2.2 t
abbrev fs_w0 (h0 : Nat) : va_W := [(h0, .inr (0, [.int 0, .null, .null, .null, .null, .null, .null, .null, .null, .null, .null, .null, .null]))]
set_option maxHeartbeats 8000000 in
theorem M_fs_init (l : Launch) (D : va_G) (h0 sz : Nat) (x : Int32) : Met l yX1_init (ws_ yX1_init cX1_init 4 none) rmX1_init (va_Pc [.ref h0, .int x] (fun U => U.heap.size = sz ∧ va_P D vwCl (fs_w0 h0) U.heap ∧ va_K D vwCl [] U ∧ va_D (fun _ => True) (fs_w0 h0))) (va_Qv (fs_iniP h0) (fs_iniB D (va_A (fs_w0 h0) sz)) (va_A (fs_w0 h0) sz)) 12 247 (va_A (fs_w0 h0) sz) := by
  refine Met.ofW (cc := cX1_init) (maxL := 4) (ret := none) (by decide) rfl ?_
  intro p e s m args below meth c s₁ B hml hv
  obtain ⟨rfl, hsz, hP, hK, hD0⟩ := hv
  have hx := B.exec
  have hb := B.bytes
  have hr := B.returns
  have hts := atoms_spec (ws := ws_ yX1_init cX1_init 4 none) B.pre
  have hts : ∀ w ∈ lw_all, w.before _ s = true := fun w h => hts w (List.mem_cons_of_mem _ h)
  have hown : s.vm.findClass RX1 = some m.cls := findClass_of_methodNamed B.named
  have hlocks := B.notSynchronized
  have hin : meth.name = "<init>" := (name_of_methodNamed B.named B.method).1
  subst hsz
  have hD := hD0.self (sz := s.heap.size)
  generalize hAe : va_A (fs_w0 h0) s.heap.size = A at hD ⊢
  have hA : ∀ q : Nat, s.heap.size ≤ q → A q := fun q h => by rw [← hAe]; exact Or.inr h
  have hS : va_S A s.heap s.heap [] := va_S.rf
  have hl := lv_entry ([.ref h0, .int x]) (n := 4) (Nat.le_of_ble_eq_true rfl)
  rw [lg_entry_eq]
  generalize (lg_sl ([.ref h0, .int x]) ++ List.replicate (4 - (lg_sl ([.ref h0, .int x])).length) Slot.unset).toArray = ls at hl ⊢
  have hl : lv_has ls 4 [(0, .ref h0), (1, .int x)] := hl
  generalize hQe : MQ below _ _ s 12 247 A = Q
  refine lv_aload_n hx hb dX1_init_0 rfl (lv_at hl 0 rfl) ?_
  refine W.objInit hx hb hown (hts _ q35) (hts _ q36) (hts _ q37) rfl (by rw [hml]; exact hl.1) rfl dX1_init_1 (Nat.le_of_ble_eq_true rfl) (Nat.le_of_ble_eq_true rfl) ?_
  refine W.eq (g2 := F0 m 4 ls []) rfl ?_
  refine lv_aload_n hx hb dX1_init_4 rfl (lv_at hl 0 rfl) ?_
  refine lv_iconst (v := nI 3) hx hb dX1_init_5 (by decide) ?_
  refine va_newa (atype := .boolean) (a0 := (3, .inl (fun _ => 0))) hx hb (hts _ q78) (ty := .boolean) rfl hK hP hD hS hA (fun _ => rfl) (nI_pos (by decide)) (nI_clamp (by decide)) (by decide) (by decide) (by decide) dX1_init_6 (fun q1 c1 H hK hP hD hS => ?_)
  have hK : va_K D vwCl [(c1, .boolean)] s := hK
  have hP : va_P D vwCl [(h0, .inr (0, [.int 0, .null, .null, .null, .null, .null, .null, .null, .null, .null, .null, .null, .null])), (q1, .inl (c1, 3, .inl (fun _ => 0)))] H := hP
  have hD : va_D A [(h0, .inr (0, [.int 0, .null, .null, .null, .null, .null, .null, .null, .null, .null, .null, .null, .null])), (q1, .inl (c1, 3, .inl (fun _ => 0)))] := hD
  refine W.widen (k := 1) (n := 3) (by decide) (by decide) ?_
  refine va_putF (D := D) (ci := 0) (v := .ref q1) (ty := .array .boolean) (C := RX1) (T := TX1) (N := 13) hx hb hts in_X1 tyX1 tyX1_ok nmX1 hown hK hP hD hS 0 rfl rfl 1 (by decide) (hts _ q39) (fun _ h9 => h9) rfl hin rfl (by decide +kernel) rfl rfl (Nat.le_of_ble_eq_true rfl) dX1_init_8 (fun H locs hP hD hS => ?_)
  have hP : va_P D vwCl [(h0, .inr (0, [.int 0, .ref q1, .null, .null, .null, .null, .null, .null, .null, .null, .null, .null, .null])), (q1, .inl (c1, 3, .inl (fun _ => 0)))] H := hP
  have hD : va_D A [(h0, .inr (0, [.int 0, .ref q1, .null, .null, .null, .null, .null, .null, .null, .null, .null, .null, .null])), (q1, .inl (c1, 3, .inl (fun _ => 0)))] := hD
  refine lv_aload_n hx hb dX1_init_11 rfl (lv_at hl 0 rfl) ?_
  refine lv_bipush (v := nI 16) hx hb dX1_init_12 (by decide) ?_
  refine va_newa (atype := .int) (a0 := (16, .inl (fun _ => 0))) hx hb (hts _ q79) (ty := .int) rfl hK hP hD hS hA (fun _ => rfl) (nI_pos (by decide)) (nI_clamp (by decide)) (by decide) (by decide) (by decide) dX1_init_14 (fun q2 c2 H hK hP hD hS => ?_)
  have hK : va_K D vwCl [(c1, .boolean), (c2, .int)] s := hK
  have hP : va_P D vwCl [(h0, .inr (0, [.int 0, .ref q1, .null, .null, .null, .null, .null, .null, .null, .null, .null, .null, .null])), (q1, .inl (c1, 3, .inl (fun _ => 0))), (q2, .inl (c2, 16, .inl (fun _ => 0)))] H := hP
  have hD : va_D A [(h0, .inr (0, [.int 0, .ref q1, .null, .null, .null, .null, .null, .null, .null, .null, .null, .null, .null])), (q1, .inl (c1, 3, .inl (fun _ => 0))), (q2, .inl (c2, 16, .inl (fun _ => 0)))] := hD
  refine W.widen (k := 2) (n := 19) (by decide) (by decide) ?_
  refine va_putF (D := D) (ci := 0) (v := .ref q2) (ty := .array .int) (C := RX1) (T := TX1) (N := 13) hx hb hts in_X1 tyX1 tyX1_ok nmX1 hown hK hP hD hS 0 rfl rfl 2 (by decide) (hts _ q40) (fun _ h9 => h9) rfl hin rfl (by decide +kernel) rfl rfl (Nat.le_of_ble_eq_true rfl) dX1_init_16 (fun H locs hP hD hS => ?_)
  have hP : va_P D vwCl [(h0, .inr (0, [.int 0, .ref q1, .ref q2, .null, .null, .null, .null, .null, .null, .null, .null, .null, .null])), (q1, .inl (c1, 3, .inl (fun _ => 0))), (q2, .inl (c2, 16, .inl (fun _ => 0)))] H := hP
  have hD : va_D A [(h0, .inr (0, [.int 0, .ref q1, .ref q2, .null, .null, .null, .null, .null, .null, .null, .null, .null, .null])), (q1, .inl (c1, 3, .inl (fun _ => 0))), (q2, .inl (c2, 16, .inl (fun _ => 0)))] := hD
  refine lv_aload_n hx hb dX1_init_19 rfl (lv_at hl 0 rfl) ?_
  refine lv_iconst (v := nI 3) hx hb dX1_init_20 (by decide) ?_
  refine va_newa (atype := .int) (a0 := (3, .inl (fun _ => 0))) hx hb (hts _ q79) (ty := .int) rfl hK hP hD hS hA (fun _ => rfl) (nI_pos (by decide)) (nI_clamp (by decide)) (by decide) (by decide) (by decide) dX1_init_21 (fun q3 c3 H hK hP hD hS => ?_)
  have hK : va_K D vwCl [(c1, .boolean), (c2, .int), (c3, .int)] s := hK
  have hP : va_P D vwCl [(h0, .inr (0, [.int 0, .ref q1, .ref q2, .null, .null, .null, .null, .null, .null, .null, .null, .null, .null])), (q1, .inl (c1, 3, .inl (fun _ => 0))), (q2, .inl (c2, 16, .inl (fun _ => 0))), (q3, .inl (c3, 3, .inl (fun _ => 0)))] H := hP
  have hD : va_D A [(h0, .inr (0, [.int 0, .ref q1, .ref q2, .null, .null, .null, .null, .null, .null, .null, .null, .null, .null])), (q1, .inl (c1, 3, .inl (fun _ => 0))), (q2, .inl (c2, 16, .inl (fun _ => 0))), (q3, .inl (c3, 3, .inl (fun _ => 0)))] := hD
  refine W.widen (k := 3) (n := 22) (by decide) (by decide) ?_
  refine va_putF (D := D) (ci := 0) (v := .ref q3) (ty := .array .int) (C := RX1) (T := TX1) (N := 13) hx hb hts in_X1 tyX1 tyX1_ok nmX1 hown hK hP hD hS 0 rfl rfl 3 (by decide) (hts _ q41) (fun _ h9 => h9) rfl hin rfl (by decide +kernel) rfl rfl (Nat.le_of_ble_eq_true rfl) dX1_init_23 (fun H locs hP hD hS => ?_)
  have hP : va_P D vwCl [(h0, .inr (0, [.int 0, .ref q1, .ref q2, .ref q3, .null, .null, .null, .null, .null, .null, .null, .null, .null])), (q1, .inl (c1, 3, .inl (fun _ => 0))), (q2, .inl (c2, 16, .inl (fun _ => 0))), (q3, .inl (c3, 3, .inl (fun _ => 0)))] H := hP
  have hD : va_D A [(h0, .inr (0, [.int 0, .ref q1, .ref q2, .ref q3, .null, .null, .null, .null, .null, .null, .null, .null, .null])), (q1, .inl (c1, 3, .inl (fun _ => 0))), (q2, .inl (c2, 16, .inl (fun _ => 0))), (q3, .inl (c3, 3, .inl (fun _ => 0)))] := hD
  refine lv_aload_n hx hb dX1_init_26 rfl (lv_at hl 0 rfl) ?_
  refine lv_bipush (v := nI 48) hx hb dX1_init_27 (by decide) ?_
  refine va_newa (atype := .int) (a0 := (48, .inl (fun _ => 0))) hx hb (hts _ q79) (ty := .int) rfl hK hP hD hS hA (fun _ => rfl) (nI_pos (by decide)) (nI_clamp (by decide)) (by decide) (by decide) (by decide) dX1_init_29 (fun q4 c4 H hK hP hD hS => ?_)
  have hK : va_K D vwCl [(c1, .boolean), (c2, .int), (c3, .int), (c4, .int)] s := hK
  have hP : va_P D vwCl [(h0, .inr (0, [.int 0, .ref q1, .ref q2, .ref q3, .null, .null, .null, .null, .null, .null, .null, .null, .null])), (q1, .inl (c1, 3, .inl (fun _ => 0))), (q2, .inl (c2, 16, .inl (fun _ => 0))), (q3, .inl (c3, 3, .inl (fun _ => 0))), (q4, .inl (c4, 48, .inl (fun _ => 0)))] H := hP
  have hD : va_D A [(h0, .inr (0, [.int 0, .ref q1, .ref q2, .ref q3, .null, .null, .null, .null, .null, .null, .null, .null, .null])), (q1, .inl (c1, 3, .inl (fun _ => 0))), (q2, .inl (c2, 16, .inl (fun _ => 0))), (q3, .inl (c3, 3, .inl (fun _ => 0))), (q4, .inl (c4, 48, .inl (fun _ => 0)))] := hD
  refine W.widen (k := 4) (n := 70) (by decide) (by decide) ?_
  refine va_putF (D := D) (ci := 0) (v := .ref q4) (ty := .array .int) (C := RX1) (T := TX1) (N := 13) hx hb hts in_X1 tyX1 tyX1_ok nmX1 hown hK hP hD hS 0 rfl rfl 4 (by decide) (hts _ q42) (fun _ h9 => h9) rfl hin rfl (by decide +kernel) rfl rfl (Nat.le_of_ble_eq_true rfl) dX1_init_31 (fun H locs hP hD hS => ?_)
  have hP : va_P D vwCl [(h0, .inr (0, [.int 0, .ref q1, .ref q2, .ref q3, .ref q4, .null, .null, .null, .null, .null, .null, .null, .null])), (q1, .inl (c1, 3, .inl (fun _ => 0))), (q2, .inl (c2, 16, .inl (fun _ => 0))), (q3, .inl (c3, 3, .inl (fun _ => 0))), (q4, .inl (c4, 48, .inl (fun _ => 0)))] H := hP
  have hD : va_D A [(h0, .inr (0, [.int 0, .ref q1, .ref q2, .ref q3, .ref q4, .null, .null, .null, .null, .null, .null, .null, .null])), (q1, .inl (c1, 3, .inl (fun _ => 0))), (q2, .inl (c2, 16, .inl (fun _ => 0))), (q3, .inl (c3, 3, .inl (fun _ => 0))), (q4, .inl (c4, 48, .inl (fun _ => 0)))] := hD
  refine lv_aload_n hx hb dX1_init_34 rfl (lv_at hl 0 rfl) ?_
  refine lv_bipush (v := nI 48) hx hb dX1_init_35 (by decide) ?_
  refine va_newa (atype := .int) (a0 := (48, .inl (fun _ => 0))) hx hb (hts _ q79) (ty := .int) rfl hK hP hD hS hA (fun _ => rfl) (nI_pos (by decide)) (nI_clamp (by decide)) (by decide) (by decide) (by decide) dX1_init_37 (fun q5 c5 H hK hP hD hS => ?_)
  have hK : va_K D vwCl [(c1, .boolean), (c2, .int), (c3, .int), (c4, .int), (c5, .int)] s := hK
  have hP : va_P D vwCl [(h0, .inr (0, [.int 0, .ref q1, .ref q2, .ref q3, .ref q4, .null, .null, .null, .null, .null, .null, .null, .null])), (q1, .inl (c1, 3, .inl (fun _ => 0))), (q2, .inl (c2, 16, .inl (fun _ => 0))), (q3, .inl (c3, 3, .inl (fun _ => 0))), (q4, .inl (c4, 48, .inl (fun _ => 0))), (q5, .inl (c5, 48, .inl (fun _ => 0)))] H := hP
  have hD : va_D A [(h0, .inr (0, [.int 0, .ref q1, .ref q2, .ref q3, .ref q4, .null, .null, .null, .null, .null, .null, .null, .null])), (q1, .inl (c1, 3, .inl (fun _ => 0))), (q2, .inl (c2, 16, .inl (fun _ => 0))), (q3, .inl (c3, 3, .inl (fun _ => 0))), (q4, .inl (c4, 48, .inl (fun _ => 0))), (q5, .inl (c5, 48, .inl (fun _ => 0)))] := hD
  refine W.widen (k := 5) (n := 118) (by decide) (by decide) ?_
  refine va_putF (D := D) (ci := 0) (v := .ref q5) (ty := .array .int) (C := RX1) (T := TX1) (N := 13) hx hb hts in_X1 tyX1 tyX1_ok nmX1 hown hK hP hD hS 0 rfl rfl 5 (by decide) (hts _ q43) (fun _ h9 => h9) rfl hin rfl (by decide +kernel) rfl rfl (Nat.le_of_ble_eq_true rfl) dX1_init_39 (fun H locs hP hD hS => ?_)
  have hP : va_P D vwCl [(h0, .inr (0, [.int 0, .ref q1, .ref q2, .ref q3, .ref q4, .ref q5, .null, .null, .null, .null, .null, .null, .null])), (q1, .inl (c1, 3, .inl (fun _ => 0))), (q2, .inl (c2, 16, .inl (fun _ => 0))), (q3, .inl (c3, 3, .inl (fun _ => 0))), (q4, .inl (c4, 48, .inl (fun _ => 0))), (q5, .inl (c5, 48, .inl (fun _ => 0)))] H := hP
  have hD : va_D A [(h0, .inr (0, [.int 0, .ref q1, .ref q2, .ref q3, .ref q4, .ref q5, .null, .null, .null, .null, .null, .null, .null])), (q1, .inl (c1, 3, .inl (fun _ => 0))), (q2, .inl (c2, 16, .inl (fun _ => 0))), (q3, .inl (c3, 3, .inl (fun _ => 0))), (q4, .inl (c4, 48, .inl (fun _ => 0))), (q5, .inl (c5, 48, .inl (fun _ => 0)))] := hD
  refine lv_aload_n hx hb dX1_init_42 rfl (lv_at hl 0 rfl) ?_
  refine lv_iconst (v := nI 3) hx hb dX1_init_43 (by decide) ?_
  refine va_newa (atype := .int) (a0 := (3, .inl (fun _ => 0))) hx hb (hts _ q79) (ty := .int) rfl hK hP hD hS hA (fun _ => rfl) (nI_pos (by decide)) (nI_clamp (by decide)) (by decide) (by decide) (by decide) dX1_init_44 (fun q6 c6 H hK hP hD hS => ?_)
  have hK : va_K D vwCl [(c1, .boolean), (c2, .int), (c3, .int), (c4, .int), (c5, .int), (c6, .int)] s := hK
  have hP : va_P D vwCl [(h0, .inr (0, [.int 0, .ref q1, .ref q2, .ref q3, .ref q4, .ref q5, .null, .null, .null, .null, .null, .null, .null])), (q1, .inl (c1, 3, .inl (fun _ => 0))), (q2, .inl (c2, 16, .inl (fun _ => 0))), (q3, .inl (c3, 3, .inl (fun _ => 0))), (q4, .inl (c4, 48, .inl (fun _ => 0))), (q5, .inl (c5, 48, .inl (fun _ => 0))), (q6, .inl (c6, 3, .inl (fun _ => 0)))] H := hP
  have hD : va_D A [(h0, .inr (0, [.int 0, .ref q1, .ref q2, .ref q3, .ref q4, .ref q5, .null, .null, .null, .null, .null, .null, .null])), (q1, .inl (c1, 3, .inl (fun _ => 0))), (q2, .inl (c2, 16, .inl (fun _ => 0))), (q3, .inl (c3, 3, .inl (fun _ => 0))), (q4, .inl (c4, 48, .inl (fun _ => 0))), (q5, .inl (c5, 48, .inl (fun _ => 0))), (q6, .inl (c6, 3, .inl (fun _ => 0)))] := hD
  refine W.widen (k := 6) (n := 121) (by decide) (by decide) ?_
  refine va_putF (D := D) (ci := 0) (v := .ref q6) (ty := .array .int) (C := RX1) (T := TX1) (N := 13) hx hb hts in_X1 tyX1 tyX1_ok nmX1 hown hK hP hD hS 0 rfl rfl 6 (by decide) (hts _ q44) (fun _ h9 => h9) rfl hin rfl (by decide +kernel) rfl rfl (Nat.le_of_ble_eq_true rfl) dX1_init_46 (fun H locs hP hD hS => ?_)
  have hP : va_P D vwCl [(h0, .inr (0, [.int 0, .ref q1, .ref q2, .ref q3, .ref q4, .ref q5, .ref q6, .null, .null, .null, .null, .null, .null])), (q1, .inl (c1, 3, .inl (fun _ => 0))), (q2, .inl (c2, 16, .inl (fun _ => 0))), (q3, .inl (c3, 3, .inl (fun _ => 0))), (q4, .inl (c4, 48, .inl (fun _ => 0))), (q5, .inl (c5, 48, .inl (fun _ => 0))), (q6, .inl (c6, 3, .inl (fun _ => 0)))] H := hP
  have hD : va_D A [(h0, .inr (0, [.int 0, .ref q1, .ref q2, .ref q3, .ref q4, .ref q5, .ref q6, .null, .null, .null, .null, .null, .null])), (q1, .inl (c1, 3, .inl (fun _ => 0))), (q2, .inl (c2, 16, .inl (fun _ => 0))), (q3, .inl (c3, 3, .inl (fun _ => 0))), (q4, .inl (c4, 48, .inl (fun _ => 0))), (q5, .inl (c5, 48, .inl (fun _ => 0))), (q6, .inl (c6, 3, .inl (fun _ => 0)))] := hD
  refine lv_aload_n hx hb dX1_init_49 rfl (lv_at hl 0 rfl) ?_
  refine lv_iconst (v := nI 3) hx hb dX1_init_50 (by decide) ?_
  refine va_newa (atype := .boolean) (a0 := (3, .inl (fun _ => 0))) hx hb (hts _ q78) (ty := .boolean) rfl hK hP hD hS hA (fun _ => rfl) (nI_pos (by decide)) (nI_clamp (by decide)) (by decide) (by decide) (by decide) dX1_init_51 (fun q7 c7 H hK hP hD hS => ?_)
  have hK : va_K D vwCl [(c1, .boolean), (c2, .int), (c3, .int), (c4, .int), (c5, .int), (c6, .int), (c7, .boolean)] s := hK
  have hP : va_P D vwCl [(h0, .inr (0, [.int 0, .ref q1, .ref q2, .ref q3, .ref q4, .ref q5, .ref q6, .null, .null, .null, .null, .null, .null])), (q1, .inl (c1, 3, .inl (fun _ => 0))), (q2, .inl (c2, 16, .inl (fun _ => 0))), (q3, .inl (c3, 3, .inl (fun _ => 0))), (q4, .inl (c4, 48, .inl (fun _ => 0))), (q5, .inl (c5, 48, .inl (fun _ => 0))), (q6, .inl (c6, 3, .inl (fun _ => 0))), (q7, .inl (c7, 3, .inl (fun _ => 0)))] H := hP
  have hD : va_D A [(h0, .inr (0, [.int 0, .ref q1, .ref q2, .ref q3, .ref q4, .ref q5, .ref q6, .null, .null, .null, .null, .null, .null])), (q1, .inl (c1, 3, .inl (fun _ => 0))), (q2, .inl (c2, 16, .inl (fun _ => 0))), (q3, .inl (c3, 3, .inl (fun _ => 0))), (q4, .inl (c4, 48, .inl (fun _ => 0))), (q5, .inl (c5, 48, .inl (fun _ => 0))), (q6, .inl (c6, 3, .inl (fun _ => 0))), (q7, .inl (c7, 3, .inl (fun _ => 0)))] := hD
  refine W.widen (k := 7) (n := 124) (by decide) (by decide) ?_
  refine va_putF (D := D) (ci := 0) (v := .ref q7) (ty := .array .boolean) (C := RX1) (T := TX1) (N := 13) hx hb hts in_X1 tyX1 tyX1_ok nmX1 hown hK hP hD hS 0 rfl rfl 7 (by decide) (hts _ q45) (fun _ h9 => h9) rfl hin rfl (by decide +kernel) rfl rfl (Nat.le_of_ble_eq_true rfl) dX1_init_53 (fun H locs hP hD hS => ?_)
  have hP : va_P D vwCl [(h0, .inr (0, [.int 0, .ref q1, .ref q2, .ref q3, .ref q4, .ref q5, .ref q6, .ref q7, .null, .null, .null, .null, .null])), (q1, .inl (c1, 3, .inl (fun _ => 0))), (q2, .inl (c2, 16, .inl (fun _ => 0))), (q3, .inl (c3, 3, .inl (fun _ => 0))), (q4, .inl (c4, 48, .inl (fun _ => 0))), (q5, .inl (c5, 48, .inl (fun _ => 0))), (q6, .inl (c6, 3, .inl (fun _ => 0))), (q7, .inl (c7, 3, .inl (fun _ => 0)))] H := hP
  have hD : va_D A [(h0, .inr (0, [.int 0, .ref q1, .ref q2, .ref q3, .ref q4, .ref q5, .ref q6, .ref q7, .null, .null, .null, .null, .null])), (q1, .inl (c1, 3, .inl (fun _ => 0))), (q2, .inl (c2, 16, .inl (fun _ => 0))), (q3, .inl (c3, 3, .inl (fun _ => 0))), (q4, .inl (c4, 48, .inl (fun _ => 0))), (q5, .inl (c5, 48, .inl (fun _ => 0))), (q6, .inl (c6, 3, .inl (fun _ => 0))), (q7, .inl (c7, 3, .inl (fun _ => 0)))] := hD
  refine lv_aload_n hx hb dX1_init_56 rfl (lv_at hl 0 rfl) ?_
  refine lv_bipush (v := nI 48) hx hb dX1_init_57 (by decide) ?_
  refine va_newa (atype := .int) (a0 := (48, .inl (fun _ => 0))) hx hb (hts _ q79) (ty := .int) rfl hK hP hD hS hA (fun _ => rfl) (nI_pos (by decide)) (nI_clamp (by decide)) (by decide) (by decide) (by decide) dX1_init_59 (fun q8 c8 H hK hP hD hS => ?_)
  have hK : va_K D vwCl [(c1, .boolean), (c2, .int), (c3, .int), (c4, .int), (c5, .int), (c6, .int), (c7, .boolean), (c8, .int)] s := hK
  have hP : va_P D vwCl [(h0, .inr (0, [.int 0, .ref q1, .ref q2, .ref q3, .ref q4, .ref q5, .ref q6, .ref q7, .null, .null, .null, .null, .null])), (q1, .inl (c1, 3, .inl (fun _ => 0))), (q2, .inl (c2, 16, .inl (fun _ => 0))), (q3, .inl (c3, 3, .inl (fun _ => 0))), (q4, .inl (c4, 48, .inl (fun _ => 0))), (q5, .inl (c5, 48, .inl (fun _ => 0))), (q6, .inl (c6, 3, .inl (fun _ => 0))), (q7, .inl (c7, 3, .inl (fun _ => 0))), (q8, .inl (c8, 48, .inl (fun _ => 0)))] H := hP
  have hD : va_D A [(h0, .inr (0, [.int 0, .ref q1, .ref q2, .ref q3, .ref q4, .ref q5, .ref q6, .ref q7, .null, .null, .null, .null, .null])), (q1, .inl (c1, 3, .inl (fun _ => 0))), (q2, .inl (c2, 16, .inl (fun _ => 0))), (q3, .inl (c3, 3, .inl (fun _ => 0))), (q4, .inl (c4, 48, .inl (fun _ => 0))), (q5, .inl (c5, 48, .inl (fun _ => 0))), (q6, .inl (c6, 3, .inl (fun _ => 0))), (q7, .inl (c7, 3, .inl (fun _ => 0))), (q8, .inl (c8, 48, .inl (fun _ => 0)))] := hD
  refine W.widen (k := 8) (n := 172) (by decide) (by decide) ?_
  refine va_putF (D := D) (ci := 0) (v := .ref q8) (ty := .array .int) (C := RX1) (T := TX1) (N := 13) hx hb hts in_X1 tyX1 tyX1_ok nmX1 hown hK hP hD hS 0 rfl rfl 8 (by decide) (hts _ q46) (fun _ h9 => h9) rfl hin rfl (by decide +kernel) rfl rfl (Nat.le_of_ble_eq_true rfl) dX1_init_61 (fun H locs hP hD hS => ?_)
  have hP : va_P D vwCl [(h0, .inr (0, [.int 0, .ref q1, .ref q2, .ref q3, .ref q4, .ref q5, .ref q6, .ref q7, .ref q8, .null, .null, .null, .null])), (q1, .inl (c1, 3, .inl (fun _ => 0))), (q2, .inl (c2, 16, .inl (fun _ => 0))), (q3, .inl (c3, 3, .inl (fun _ => 0))), (q4, .inl (c4, 48, .inl (fun _ => 0))), (q5, .inl (c5, 48, .inl (fun _ => 0))), (q6, .inl (c6, 3, .inl (fun _ => 0))), (q7, .inl (c7, 3, .inl (fun _ => 0))), (q8, .inl (c8, 48, .inl (fun _ => 0)))] H := hP
  have hD : va_D A [(h0, .inr (0, [.int 0, .ref q1, .ref q2, .ref q3, .ref q4, .ref q5, .ref q6, .ref q7, .ref q8, .null, .null, .null, .null])), (q1, .inl (c1, 3, .inl (fun _ => 0))), (q2, .inl (c2, 16, .inl (fun _ => 0))), (q3, .inl (c3, 3, .inl (fun _ => 0))), (q4, .inl (c4, 48, .inl (fun _ => 0))), (q5, .inl (c5, 48, .inl (fun _ => 0))), (q6, .inl (c6, 3, .inl (fun _ => 0))), (q7, .inl (c7, 3, .inl (fun _ => 0))), (q8, .inl (c8, 48, .inl (fun _ => 0)))] := hD
  refine lv_aload_n hx hb dX1_init_64 rfl (lv_at hl 0 rfl) ?_
  refine lv_bipush (v := nI 24) hx hb dX1_init_65 (by decide) ?_
  refine va_newa (atype := .int) (a0 := (24, .inl (fun _ => 0))) hx hb (hts _ q79) (ty := .int) rfl hK hP hD hS hA (fun _ => rfl) (nI_pos (by decide)) (nI_clamp (by decide)) (by decide) (by decide) (by decide) dX1_init_67 (fun q9 c9 H hK hP hD hS => ?_)
  have hK : va_K D vwCl [(c1, .boolean), (c2, .int), (c3, .int), (c4, .int), (c5, .int), (c6, .int), (c7, .boolean), (c8, .int), (c9, .int)] s := hK
  have hP : va_P D vwCl [(h0, .inr (0, [.int 0, .ref q1, .ref q2, .ref q3, .ref q4, .ref q5, .ref q6, .ref q7, .ref q8, .null, .null, .null, .null])), (q1, .inl (c1, 3, .inl (fun _ => 0))), (q2, .inl (c2, 16, .inl (fun _ => 0))), (q3, .inl (c3, 3, .inl (fun _ => 0))), (q4, .inl (c4, 48, .inl (fun _ => 0))), (q5, .inl (c5, 48, .inl (fun _ => 0))), (q6, .inl (c6, 3, .inl (fun _ => 0))), (q7, .inl (c7, 3, .inl (fun _ => 0))), (q8, .inl (c8, 48, .inl (fun _ => 0))), (q9, .inl (c9, 24, .inl (fun _ => 0)))] H := hP
  have hD : va_D A [(h0, .inr (0, [.int 0, .ref q1, .ref q2, .ref q3, .ref q4, .ref q5, .ref q6, .ref q7, .ref q8, .null, .null, .null, .null])), (q1, .inl (c1, 3, .inl (fun _ => 0))), (q2, .inl (c2, 16, .inl (fun _ => 0))), (q3, .inl (c3, 3, .inl (fun _ => 0))), (q4, .inl (c4, 48, .inl (fun _ => 0))), (q5, .inl (c5, 48, .inl (fun _ => 0))), (q6, .inl (c6, 3, .inl (fun _ => 0))), (q7, .inl (c7, 3, .inl (fun _ => 0))), (q8, .inl (c8, 48, .inl (fun _ => 0))), (q9, .inl (c9, 24, .inl (fun _ => 0)))] := hD
  refine W.widen (k := 9) (n := 196) (by decide) (by decide) ?_
  refine va_putF (D := D) (ci := 0) (v := .ref q9) (ty := .array .int) (C := RX1) (T := TX1) (N := 13) hx hb hts in_X1 tyX1 tyX1_ok nmX1 hown hK hP hD hS 0 rfl rfl 9 (by decide) (hts _ q47) (fun _ h9 => h9) rfl hin rfl (by decide +kernel) rfl rfl (Nat.le_of_ble_eq_true rfl) dX1_init_69 (fun H locs hP hD hS => ?_)
  have hP : va_P D vwCl [(h0, .inr (0, [.int 0, .ref q1, .ref q2, .ref q3, .ref q4, .ref q5, .ref q6, .ref q7, .ref q8, .ref q9, .null, .null, .null])), (q1, .inl (c1, 3, .inl (fun _ => 0))), (q2, .inl (c2, 16, .inl (fun _ => 0))), (q3, .inl (c3, 3, .inl (fun _ => 0))), (q4, .inl (c4, 48, .inl (fun _ => 0))), (q5, .inl (c5, 48, .inl (fun _ => 0))), (q6, .inl (c6, 3, .inl (fun _ => 0))), (q7, .inl (c7, 3, .inl (fun _ => 0))), (q8, .inl (c8, 48, .inl (fun _ => 0))), (q9, .inl (c9, 24, .inl (fun _ => 0)))] H := hP
  have hD : va_D A [(h0, .inr (0, [.int 0, .ref q1, .ref q2, .ref q3, .ref q4, .ref q5, .ref q6, .ref q7, .ref q8, .ref q9, .null, .null, .null])), (q1, .inl (c1, 3, .inl (fun _ => 0))), (q2, .inl (c2, 16, .inl (fun _ => 0))), (q3, .inl (c3, 3, .inl (fun _ => 0))), (q4, .inl (c4, 48, .inl (fun _ => 0))), (q5, .inl (c5, 48, .inl (fun _ => 0))), (q6, .inl (c6, 3, .inl (fun _ => 0))), (q7, .inl (c7, 3, .inl (fun _ => 0))), (q8, .inl (c8, 48, .inl (fun _ => 0))), (q9, .inl (c9, 24, .inl (fun _ => 0)))] := hD
  refine lv_aload_n hx hb dX1_init_72 rfl (lv_at hl 0 rfl) ?_
  refine lv_bipush (v := nI 24) hx hb dX1_init_73 (by decide) ?_
  refine va_newa (atype := .int) (a0 := (24, .inl (fun _ => 0))) hx hb (hts _ q79) (ty := .int) rfl hK hP hD hS hA (fun _ => rfl) (nI_pos (by decide)) (nI_clamp (by decide)) (by decide) (by decide) (by decide) dX1_init_75 (fun q10 c10 H hK hP hD hS => ?_)
  have hK : va_K D vwCl [(c1, .boolean), (c2, .int), (c3, .int), (c4, .int), (c5, .int), (c6, .int), (c7, .boolean), (c8, .int), (c9, .int), (c10, .int)] s := hK
  have hP : va_P D vwCl [(h0, .inr (0, [.int 0, .ref q1, .ref q2, .ref q3, .ref q4, .ref q5, .ref q6, .ref q7, .ref q8, .ref q9, .null, .null, .null])), (q1, .inl (c1, 3, .inl (fun _ => 0))), (q2, .inl (c2, 16, .inl (fun _ => 0))), (q3, .inl (c3, 3, .inl (fun _ => 0))), (q4, .inl (c4, 48, .inl (fun _ => 0))), (q5, .inl (c5, 48, .inl (fun _ => 0))), (q6, .inl (c6, 3, .inl (fun _ => 0))), (q7, .inl (c7, 3, .inl (fun _ => 0))), (q8, .inl (c8, 48, .inl (fun _ => 0))), (q9, .inl (c9, 24, .inl (fun _ => 0))), (q10, .inl (c10, 24, .inl (fun _ => 0)))] H := hP
  have hD : va_D A [(h0, .inr (0, [.int 0, .ref q1, .ref q2, .ref q3, .ref q4, .ref q5, .ref q6, .ref q7, .ref q8, .ref q9, .null, .null, .null])), (q1, .inl (c1, 3, .inl (fun _ => 0))), (q2, .inl (c2, 16, .inl (fun _ => 0))), (q3, .inl (c3, 3, .inl (fun _ => 0))), (q4, .inl (c4, 48, .inl (fun _ => 0))), (q5, .inl (c5, 48, .inl (fun _ => 0))), (q6, .inl (c6, 3, .inl (fun _ => 0))), (q7, .inl (c7, 3, .inl (fun _ => 0))), (q8, .inl (c8, 48, .inl (fun _ => 0))), (q9, .inl (c9, 24, .inl (fun _ => 0))), (q10, .inl (c10, 24, .inl (fun _ => 0)))] := hD
  refine W.widen (k := 10) (n := 220) (by decide) (by decide) ?_
  refine va_putF (D := D) (ci := 0) (v := .ref q10) (ty := .array .int) (C := RX1) (T := TX1) (N := 13) hx hb hts in_X1 tyX1 tyX1_ok nmX1 hown hK hP hD hS 0 rfl rfl 10 (by decide) (hts _ q48) (fun _ h9 => h9) rfl hin rfl (by decide +kernel) rfl rfl (Nat.le_of_ble_eq_true rfl) dX1_init_77 (fun H locs hP hD hS => ?_)
  have hP : va_P D vwCl [(h0, .inr (0, [.int 0, .ref q1, .ref q2, .ref q3, .ref q4, .ref q5, .ref q6, .ref q7, .ref q8, .ref q9, .ref q10, .null, .null])), (q1, .inl (c1, 3, .inl (fun _ => 0))), (q2, .inl (c2, 16, .inl (fun _ => 0))), (q3, .inl (c3, 3, .inl (fun _ => 0))), (q4, .inl (c4, 48, .inl (fun _ => 0))), (q5, .inl (c5, 48, .inl (fun _ => 0))), (q6, .inl (c6, 3, .inl (fun _ => 0))), (q7, .inl (c7, 3, .inl (fun _ => 0))), (q8, .inl (c8, 48, .inl (fun _ => 0))), (q9, .inl (c9, 24, .inl (fun _ => 0))), (q10, .inl (c10, 24, .inl (fun _ => 0)))] H := hP
  have hD : va_D A [(h0, .inr (0, [.int 0, .ref q1, .ref q2, .ref q3, .ref q4, .ref q5, .ref q6, .ref q7, .ref q8, .ref q9, .ref q10, .null, .null])), (q1, .inl (c1, 3, .inl (fun _ => 0))), (q2, .inl (c2, 16, .inl (fun _ => 0))), (q3, .inl (c3, 3, .inl (fun _ => 0))), (q4, .inl (c4, 48, .inl (fun _ => 0))), (q5, .inl (c5, 48, .inl (fun _ => 0))), (q6, .inl (c6, 3, .inl (fun _ => 0))), (q7, .inl (c7, 3, .inl (fun _ => 0))), (q8, .inl (c8, 48, .inl (fun _ => 0))), (q9, .inl (c9, 24, .inl (fun _ => 0))), (q10, .inl (c10, 24, .inl (fun _ => 0)))] := hD
  refine lv_aload_n hx hb dX1_init_80 rfl (lv_at hl 0 rfl) ?_
  refine lv_bipush (v := nI 24) hx hb dX1_init_81 (by decide) ?_
  refine va_newa (atype := .boolean) (a0 := (24, .inl (fun _ => 0))) hx hb (hts _ q78) (ty := .boolean) rfl hK hP hD hS hA (fun _ => rfl) (nI_pos (by decide)) (nI_clamp (by decide)) (by decide) (by decide) (by decide) dX1_init_83 (fun q11 c11 H hK hP hD hS => ?_)
  have hK : va_K D vwCl [(c1, .boolean), (c2, .int), (c3, .int), (c4, .int), (c5, .int), (c6, .int), (c7, .boolean), (c8, .int), (c9, .int), (c10, .int), (c11, .boolean)] s := hK
  have hP : va_P D vwCl [(h0, .inr (0, [.int 0, .ref q1, .ref q2, .ref q3, .ref q4, .ref q5, .ref q6, .ref q7, .ref q8, .ref q9, .ref q10, .null, .null])), (q1, .inl (c1, 3, .inl (fun _ => 0))), (q2, .inl (c2, 16, .inl (fun _ => 0))), (q3, .inl (c3, 3, .inl (fun _ => 0))), (q4, .inl (c4, 48, .inl (fun _ => 0))), (q5, .inl (c5, 48, .inl (fun _ => 0))), (q6, .inl (c6, 3, .inl (fun _ => 0))), (q7, .inl (c7, 3, .inl (fun _ => 0))), (q8, .inl (c8, 48, .inl (fun _ => 0))), (q9, .inl (c9, 24, .inl (fun _ => 0))), (q10, .inl (c10, 24, .inl (fun _ => 0))), (q11, .inl (c11, 24, .inl (fun _ => 0)))] H := hP
  have hD : va_D A [(h0, .inr (0, [.int 0, .ref q1, .ref q2, .ref q3, .ref q4, .ref q5, .ref q6, .ref q7, .ref q8, .ref q9, .ref q10, .null, .null])), (q1, .inl (c1, 3, .inl (fun _ => 0))), (q2, .inl (c2, 16, .inl (fun _ => 0))), (q3, .inl (c3, 3, .inl (fun _ => 0))), (q4, .inl (c4, 48, .inl (fun _ => 0))), (q5, .inl (c5, 48, .inl (fun _ => 0))), (q6, .inl (c6, 3, .inl (fun _ => 0))), (q7, .inl (c7, 3, .inl (fun _ => 0))), (q8, .inl (c8, 48, .inl (fun _ => 0))), (q9, .inl (c9, 24, .inl (fun _ => 0))), (q10, .inl (c10, 24, .inl (fun _ => 0))), (q11, .inl (c11, 24, .inl (fun _ => 0)))] := hD
  refine W.widen (k := 11) (n := 244) (by decide) (by decide) ?_
  refine va_putF (D := D) (ci := 0) (v := .ref q11) (ty := .array .boolean) (C := RX1) (T := TX1) (N := 13) hx hb hts in_X1 tyX1 tyX1_ok nmX1 hown hK hP hD hS 0 rfl rfl 11 (by decide) (hts _ q49) (fun _ h9 => h9) rfl hin rfl (by decide +kernel) rfl rfl (Nat.le_of_ble_eq_true rfl) dX1_init_85 (fun H locs hP hD hS => ?_)
  have hP : va_P D vwCl [(h0, .inr (0, [.int 0, .ref q1, .ref q2, .ref q3, .ref q4, .ref q5, .ref q6, .ref q7, .ref q8, .ref q9, .ref q10, .ref q11, .null])), (q1, .inl (c1, 3, .inl (fun _ => 0))), (q2, .inl (c2, 16, .inl (fun _ => 0))), (q3, .inl (c3, 3, .inl (fun _ => 0))), (q4, .inl (c4, 48, .inl (fun _ => 0))), (q5, .inl (c5, 48, .inl (fun _ => 0))), (q6, .inl (c6, 3, .inl (fun _ => 0))), (q7, .inl (c7, 3, .inl (fun _ => 0))), (q8, .inl (c8, 48, .inl (fun _ => 0))), (q9, .inl (c9, 24, .inl (fun _ => 0))), (q10, .inl (c10, 24, .inl (fun _ => 0))), (q11, .inl (c11, 24, .inl (fun _ => 0)))] H := hP
  have hD : va_D A [(h0, .inr (0, [.int 0, .ref q1, .ref q2, .ref q3, .ref q4, .ref q5, .ref q6, .ref q7, .ref q8, .ref q9, .ref q10, .ref q11, .null])), (q1, .inl (c1, 3, .inl (fun _ => 0))), (q2, .inl (c2, 16, .inl (fun _ => 0))), (q3, .inl (c3, 3, .inl (fun _ => 0))), (q4, .inl (c4, 48, .inl (fun _ => 0))), (q5, .inl (c5, 48, .inl (fun _ => 0))), (q6, .inl (c6, 3, .inl (fun _ => 0))), (q7, .inl (c7, 3, .inl (fun _ => 0))), (q8, .inl (c8, 48, .inl (fun _ => 0))), (q9, .inl (c9, 24, .inl (fun _ => 0))), (q10, .inl (c10, 24, .inl (fun _ => 0))), (q11, .inl (c11, 24, .inl (fun _ => 0)))] := hD
  refine lv_aload_n hx hb dX1_init_88 rfl (lv_at hl 0 rfl) ?_
  refine lv_iconst (v := nI 3) hx hb dX1_init_89 (by decide) ?_
  refine va_newa (atype := .int) (a0 := (3, .inl (fun _ => 0))) hx hb (hts _ q79) (ty := .int) rfl hK hP hD hS hA (fun _ => rfl) (nI_pos (by decide)) (nI_clamp (by decide)) (by decide) (by decide) (by decide) dX1_init_90 (fun q12 c12 H hK hP hD hS => ?_)
  have hK : va_K D vwCl [(c1, .boolean), (c2, .int), (c3, .int), (c4, .int), (c5, .int), (c6, .int), (c7, .boolean), (c8, .int), (c9, .int), (c10, .int), (c11, .boolean), (c12, .int)] s := hK
  have hP : va_P D vwCl [(h0, .inr (0, [.int 0, .ref q1, .ref q2, .ref q3, .ref q4, .ref q5, .ref q6, .ref q7, .ref q8, .ref q9, .ref q10, .ref q11, .null])), (q1, .inl (c1, 3, .inl (fun _ => 0))), (q2, .inl (c2, 16, .inl (fun _ => 0))), (q3, .inl (c3, 3, .inl (fun _ => 0))), (q4, .inl (c4, 48, .inl (fun _ => 0))), (q5, .inl (c5, 48, .inl (fun _ => 0))), (q6, .inl (c6, 3, .inl (fun _ => 0))), (q7, .inl (c7, 3, .inl (fun _ => 0))), (q8, .inl (c8, 48, .inl (fun _ => 0))), (q9, .inl (c9, 24, .inl (fun _ => 0))), (q10, .inl (c10, 24, .inl (fun _ => 0))), (q11, .inl (c11, 24, .inl (fun _ => 0))), (q12, .inl (c12, 3, .inl (fun _ => 0)))] H := hP
  have hD : va_D A [(h0, .inr (0, [.int 0, .ref q1, .ref q2, .ref q3, .ref q4, .ref q5, .ref q6, .ref q7, .ref q8, .ref q9, .ref q10, .ref q11, .null])), (q1, .inl (c1, 3, .inl (fun _ => 0))), (q2, .inl (c2, 16, .inl (fun _ => 0))), (q3, .inl (c3, 3, .inl (fun _ => 0))), (q4, .inl (c4, 48, .inl (fun _ => 0))), (q5, .inl (c5, 48, .inl (fun _ => 0))), (q6, .inl (c6, 3, .inl (fun _ => 0))), (q7, .inl (c7, 3, .inl (fun _ => 0))), (q8, .inl (c8, 48, .inl (fun _ => 0))), (q9, .inl (c9, 24, .inl (fun _ => 0))), (q10, .inl (c10, 24, .inl (fun _ => 0))), (q11, .inl (c11, 24, .inl (fun _ => 0))), (q12, .inl (c12, 3, .inl (fun _ => 0)))] := hD
  refine W.widen (k := 12) (n := 247) (by decide) (by decide) ?_
  refine va_putF (D := D) (ci := 0) (v := .ref q12) (ty := .array .int) (C := RX1) (T := TX1) (N := 13) hx hb hts in_X1 tyX1 tyX1_ok nmX1 hown hK hP hD hS 0 rfl rfl 12 (by decide) (hts _ q50) (fun _ h9 => h9) rfl hin rfl (by decide +kernel) rfl rfl (Nat.le_of_ble_eq_true rfl) dX1_init_92 (fun H locs hP hD hS => ?_)
  have hP : va_P D vwCl [(h0, .inr (0, [.int 0, .ref q1, .ref q2, .ref q3, .ref q4, .ref q5, .ref q6, .ref q7, .ref q8, .ref q9, .ref q10, .ref q11, .ref q12])), (q1, .inl (c1, 3, .inl (fun _ => 0))), (q2, .inl (c2, 16, .inl (fun _ => 0))), (q3, .inl (c3, 3, .inl (fun _ => 0))), (q4, .inl (c4, 48, .inl (fun _ => 0))), (q5, .inl (c5, 48, .inl (fun _ => 0))), (q6, .inl (c6, 3, .inl (fun _ => 0))), (q7, .inl (c7, 3, .inl (fun _ => 0))), (q8, .inl (c8, 48, .inl (fun _ => 0))), (q9, .inl (c9, 24, .inl (fun _ => 0))), (q10, .inl (c10, 24, .inl (fun _ => 0))), (q11, .inl (c11, 24, .inl (fun _ => 0))), (q12, .inl (c12, 3, .inl (fun _ => 0)))] H := hP
  have hD : va_D A [(h0, .inr (0, [.int 0, .ref q1, .ref q2, .ref q3, .ref q4, .ref q5, .ref q6, .ref q7, .ref q8, .ref q9, .ref q10, .ref q11, .ref q12])), (q1, .inl (c1, 3, .inl (fun _ => 0))), (q2, .inl (c2, 16, .inl (fun _ => 0))), (q3, .inl (c3, 3, .inl (fun _ => 0))), (q4, .inl (c4, 48, .inl (fun _ => 0))), (q5, .inl (c5, 48, .inl (fun _ => 0))), (q6, .inl (c6, 3, .inl (fun _ => 0))), (q7, .inl (c7, 3, .inl (fun _ => 0))), (q8, .inl (c8, 48, .inl (fun _ => 0))), (q9, .inl (c9, 24, .inl (fun _ => 0))), (q10, .inl (c10, 24, .inl (fun _ => 0))), (q11, .inl (c11, 24, .inl (fun _ => 0))), (q12, .inl (c12, 3, .inl (fun _ => 0)))] := hD
  have tail : ∀ (R : Nat) (ls : Array Slot), 2 ≤ R → R ≤ 8 → lv_has ls 4 [(2, .int (nI R)), (0, .ref h0), (1, .int x)] → W p l e rmX1_init s m ([.ref h0, .int x] : List Value).toArray below meth c H locs 12 247 Q (F0 m 113 ls []) := by
    intro R ls h2R hR hl
    refine lv_aload_n hx hb dX1_init_113 rfl (lv_at hl 1 rfl) ?_
    refine lv_iload_n hx hb dX1_init_114 rfl (lv_at hl 0 rfl) ?_
    refine va_putF (D := D) (ci := 0) (v := .int (nI R)) (ty := .int) (C := RX1) (T := TX1) (N := 13) hx hb hts in_X1 tyX1 tyX1_ok nmX1 hown hK hP hD hS 0 rfl rfl 0 (by decide) (hts _ q38) (fun _ h9 => h9) rfl hin rfl (by decide +kernel) rfl rfl (Nat.le_of_ble_eq_true rfl) dX1_init_115 (fun H locs hP hD hS => ?_)
    obtain ⟨h, hh⟩ : ∃ h : Nat → Nat, h = fun k => [h0, q1, q2, q3, q4, q5, q6, q7, q8, q9, q10, q11, q12].getD k 0 := ⟨_, rfl⟩
    obtain ⟨d, hd⟩ : ∃ d : Nat → ClassId, d = fun k => [c1, c1, c2, c3, c4, c5, c6, c7, c8, c9, c10, c11, c12].getD k c1 := ⟨_, rfl⟩
    have hz0 : h 0 = h0 := by rw [hh]; rfl
    have hI : ob_I D 0 [.int (nI R)] fsKs h d (fun _ _ => 0) A s.heap H locs := by rw [hh, hd]; exact ⟨hP, hD, hS⟩
    have hX : ob_X p m c cX1_init 4 s ([.ref h0, .int x] : List Value).toArray RX1 D d fsKs := by rw [hd]; exact ⟨⟨hx, hb, hml, hown, hts⟩, hK⟩
    rw [← hz0] at hl
    refine lv_iconst (v := nI 0) hx hb dX1_init_118 (by decide) ?_
    refine lv_istore_n (lv' := [(3, .int (nI 0)), (2, .int (nI R)), (0, .ref (h 0)), (1, .int x)]) hx hb dX1_init_119 rfl hl (by decide) rfl (fun ls hl => ?_)
    have loop2 : ∀ (k i : Nat) (τ : FS) (H : Heap) (locs : List Loc) (ls : Array Slot), 3 < i + k → i ≤ 3 → (∀ j, j < 24 → τ 9 j = -1) → (∀ j, j < i → τ 1 j = 1) → (∀ k, k ≠ 9 → k ≠ 1 → ∀ j, τ k j = 0) → ob_I D 0 [.int (nI R)] fsKs h d τ A s.heap H locs → lv_has ls 4 [(3, .int (nI i)), (2, .int (nI R)), (0, .ref (h 0)), (1, .int x)] → W p l e rmX1_init s m ([.ref h0, .int x] : List Value).toArray below meth c H locs 12 247 Q (F0 m 141 ls []) := by
      intro k
      induction k with
      | zero => intro i τ H locs ls h1 h2; exact absurd h1 (by omega)
      | succ k ih =>
        intro i τ H locs ls hk hi h9 h1 hz hI hl
        refine lv_iload_n hx hb dX1_init_141 rfl (lv_at hl 0 rfl) ?_
        refine lv_iconst (v := nI 3) hx hb dX1_init_142 (by decide) ?_
        refine n_icmp_ge (tgt := 159) hx hb dX1_init_143 (by decide) (by omega) (by omega) (fun q => ?_) (fun q => ?_)
        · skip
          obtain ⟨hP, hD, hS⟩ := hI
          rw [← hQe]
          exact W.vret hx hb hr (fun t ht hW => ⟨⟨(h, d, R, τ), rfl, ⟨hz0, h2R, hR, h9, fun n hn => h1 n (by omega), hz⟩, by rw [ht]; exact hP, va_K.moved hW.alike hX.2, hD⟩, hS.F ht⟩) hS.2.2 dX1_init_159
        · skip
          refine lv_aload_n hx hb dX1_init_146 rfl (lv_at hl 2 rfl) ?_
          refine fs_g1 hX hI dX1_init_147 ?_
          refine lv_iload_n hx hb dX1_init_150 rfl (lv_at hl 0 rfl) ?_
          refine lv_iconst (v := 1) hx hb dX1_init_151 (by decide) ?_
          refine ob_zst hX hI 1 rfl (i) (by omega) (by decide) (by decide) dX1_init_152 (fun H locs hI => ?_)
          refine n_iinc (k := 0) (lv' := [(3, .int (nI (i + 1))), (2, .int (nI R)), (0, .ref (h 0)), (1, .int x)]) hx hb dX1_init_153 hl rfl (by decide) rfl (fun ls hl => ?_)
          refine lv_goto (tgt := 141) hx hb dX1_init_156 (by decide) ?_
          exact ih (i + 1) _ H locs ls (by omega) (by omega) (fun j hj => by rw [st_ne _ _ (Or.inl (by decide))]; exact h9 j hj) (lt_s (fun j hj => by rw [st_ne _ _ (Or.inr (by omega))]; exact h1 j hj) (st_at _ _ _ _)) (fun k k9 k1 j => by rw [st_ne _ _ (Or.inl k1)]; exact hz k k9 k1 j) hI hl
    have loop : ∀ (k i : Nat) (τ : FS) (H : Heap) (locs : List Loc) (ls : Array Slot), 24 < i + k → i ≤ 24 → (∀ j, j < i → τ 9 j = -1) → (∀ k, k ≠ 9 → ∀ j, τ k j = 0) → ob_I D 0 [.int (nI R)] fsKs h d τ A s.heap H locs → lv_has ls 4 [(3, .int (nI i)), (2, .int (nI R)), (0, .ref (h 0)), (1, .int x)] → W p l e rmX1_init s m ([.ref h0, .int x] : List Value).toArray below meth c H locs 12 247 Q (F0 m 120 ls []) := by
      intro k
      induction k with
      | zero => intro i τ H locs ls h1 h2; exact absurd h1 (by omega)
      | succ k ih =>
        intro i τ H locs ls hk hi h9 hz hI hl
        refine lv_iload_n hx hb dX1_init_120 rfl (lv_at hl 0 rfl) ?_
        refine lv_bipush (v := nI 24) hx hb dX1_init_121 (by decide) ?_
        refine n_icmp_ge (tgt := 139) hx hb dX1_init_123 (by decide) (by omega) (by omega) (fun q => ?_) (fun q => ?_)
        · skip
          refine lv_iconst (v := nI 0) hx hb dX1_init_139 (by decide) ?_
          refine lv_istore_n (lv' := [(3, .int (nI 0)), (2, .int (nI R)), (0, .ref (h 0)), (1, .int x)]) hx hb dX1_init_140 rfl hl (by decide) rfl (fun ls hl => ?_)
          exact loop2 4 0 τ H locs ls (by omega) (Nat.zero_le _) (fun j hj => h9 j (by omega)) (fun j hj => absurd hj (Nat.not_lt_zero j)) (fun k k9 _ j => hz k k9 j) hI hl
        · skip
          refine lv_aload_n hx hb dX1_init_126 rfl (lv_at hl 2 rfl) ?_
          refine fs_g9 hX hI dX1_init_127 ?_
          refine lv_iload_n hx hb dX1_init_130 rfl (lv_at hl 0 rfl) ?_
          refine lv_iconst (v := (-1)) hx hb dX1_init_131 (by decide) ?_
          refine ob_st hX hI 9 rfl (i) (by omega) (by decide) dX1_init_132 (fun H locs hI => ?_)
          refine n_iinc (k := 0) (lv' := [(3, .int (nI (i + 1))), (2, .int (nI R)), (0, .ref (h 0)), (1, .int x)]) hx hb dX1_init_133 hl rfl (by decide) rfl (fun ls hl => ?_)
          refine lv_goto (tgt := 120) hx hb dX1_init_136 (by decide) ?_
          exact ih (i + 1) _ H locs ls (by omega) (by omega) (lt_s (fun j hj => by rw [st_ne _ _ (Or.inr (by omega))]; exact h9 j hj) (st_at _ _ _ _)) (fun k k9 j => by rw [st_ne _ _ (Or.inl k9)]; exact hz k k9 j) hI hl
    exact loop 25 0 _ H locs ls (by omega) (Nat.zero_le _) (fun j hj => absurd hj (Nat.not_lt_zero j)) (fun _ _ _ => rfl) hI hl
  refine lv_iload_n hx hb dX1_init_95 rfl (lv_at hl 1 rfl) ?_
  refine lv_istore_n (lv' := [(2, .int x), (0, .ref h0), (1, .int x)]) hx hb dX1_init_96 rfl hl (by decide) rfl (fun ls hl => ?_)
  refine lv_iload_n hx hb dX1_init_97 rfl (lv_at hl 0 rfl) ?_
  refine lv_iconst (v := nI 2) hx hb dX1_init_98 (by decide) ?_
  refine lv_icmp_ge (tgt := 104) hx hb dX1_init_99 (by decide) (fun q1 => ?_) (fun q1 => ?_)
  · skip
    refine lv_iload_n hx hb dX1_init_104 rfl (lv_at hl 0 rfl) ?_
    refine lv_bipush (v := nI 8) hx hb dX1_init_105 (by decide) ?_
    refine lv_icmp_le (tgt := 113) hx hb dX1_init_107 (by decide) (fun q2 => ?_) (fun q2 => ?_)
    · skip
      obtain ⟨R, hR8, rfl⟩ : ∃ R : Nat, R ≤ 8 ∧ x = nI R := nI_of2 (M := nI 8) (nI_toInt (by decide)) (fun z => absurd q1 (fun y => absurd (Int32.lt_of_le_of_lt y z) (by decide))) q2
      exact tail R ls ((nI_leI (by decide) (by omega)).mp q1) hR8 hl
    · skip
      refine lv_bipush (v := nI 8) hx hb dX1_init_110 (by decide) ?_
      refine lv_istore_n (lv' := [(2, .int (nI 8)), (0, .ref h0), (1, .int x)]) hx hb dX1_init_112 rfl hl (by decide) rfl (fun ls hl => ?_)
      exact tail 8 ls (by decide) (by decide) hl
  · skip
    refine lv_iconst (v := nI 2) hx hb dX1_init_102 (by decide) ?_
    refine lv_istore_n (lv' := [(2, .int (nI 2)), (0, .ref h0), (1, .int x)]) hx hb dX1_init_103 rfl hl (by decide) rfl (fun ls hl => ?_)
    refine lv_iload_n hx hb dX1_init_104 rfl (lv_at hl 0 rfl) ?_
    refine lv_bipush (v := nI 8) hx hb dX1_init_105 (by decide) ?_
    refine lv_icmp_le (tgt := 113) hx hb dX1_init_107 (by decide) (fun q2 => ?_) (fun q2 => ?_)
    · skip
      exact tail 2 ls (by decide) (by decide) hl
    · exact absurd (by decide) q2
def md_ini (μ : FS) : Prop := (∀ b, b < 16 → μ 3 b = -4) ∧ ∀ k, k ≠ 3 → ∀ i, μ k i = 0
def md_iniP (h0 : Nat) (u : ((Nat → Nat) × (Nat → ClassId) × FS)) : Prop := u.1 0 = h0 ∧ md_ini u.2.2
def md_iniB (D : va_G) (A : Nat → Prop) (u : ((Nat → Nat) × (Nat → ClassId) × FS)) (t : State) : Prop := ob_B D 1 [] mdKs u.1 u.2.1 A u.2.2 t
abbrev md_w0 (h0 : Nat) : va_W := [(h0, .inr (1, [.null, .null, .null, .null]))]
set_option maxHeartbeats 8000000 in
theorem M_md_init (l : Launch) (D : va_G) (h0 sz : Nat) (x : Int32) : Met l yX2_init (ws_ yX2_init cX2_init 3 none) rmX2_init (va_Pc [.ref h0, .int x] (fun U => U.heap.size = sz ∧ va_P D vwCl (md_w0 h0) U.heap ∧ va_K D vwCl [] U ∧ va_D (fun _ => True) (md_w0 h0))) (va_Qv (md_iniP h0) (md_iniB D (va_A (md_w0 h0) sz)) (va_A (md_w0 h0) sz)) 4 51 (va_A (md_w0 h0) sz) := by
  refine Met.ofW (cc := cX2_init) (maxL := 3) (ret := none) (by decide) rfl ?_
  intro p e s m args below meth c s₁ B hml hv
  obtain ⟨rfl, hsz, hP, hK, hD0⟩ := hv
  have hx := B.exec
  have hb := B.bytes
  have hr := B.returns
  have hts := atoms_spec (ws := ws_ yX2_init cX2_init 3 none) B.pre
  have hts : ∀ w ∈ lw_all, w.before _ s = true := fun w h => hts w (List.mem_cons_of_mem _ h)
  have hown : s.vm.findClass RX2 = some m.cls := findClass_of_methodNamed B.named
  have hlocks := B.notSynchronized
  have hin : meth.name = "<init>" := (name_of_methodNamed B.named B.method).1
  subst hsz
  have hD := hD0.self (sz := s.heap.size)
  generalize hAe : va_A (md_w0 h0) s.heap.size = A at hD ⊢
  have hA : ∀ q : Nat, s.heap.size ≤ q → A q := fun q h => by rw [← hAe]; exact Or.inr h
  have hS : va_S A s.heap s.heap [] := va_S.rf
  have hl := lv_entry ([.ref h0, .int x]) (n := 3) (Nat.le_of_ble_eq_true rfl)
  rw [lg_entry_eq]
  generalize (lg_sl ([.ref h0, .int x]) ++ List.replicate (3 - (lg_sl ([.ref h0, .int x])).length) Slot.unset).toArray = ls at hl ⊢
  have hl : lv_has ls 3 [(0, .ref h0), (1, .int x)] := hl
  generalize hQe : MQ below _ _ s 4 51 A = Q
  refine lv_aload_n hx hb dX2_init_0 rfl (lv_at hl 0 rfl) ?_
  refine W.objInit hx hb hown (hts _ q234) (hts _ q36) (hts _ q37) rfl (by rw [hml]; exact hl.1) rfl dX2_init_1 (Nat.le_of_ble_eq_true rfl) (Nat.le_of_ble_eq_true rfl) ?_
  refine W.eq (g2 := F0 m 4 ls []) rfl ?_
  refine lv_aload_n hx hb dX2_init_4 rfl (lv_at hl 0 rfl) ?_
  refine lv_bipush (v := nI 16) hx hb dX2_init_5 (by decide) ?_
  refine va_newa (atype := .int) (a0 := (16, .inl (fun _ => 0))) hx hb (hts _ q79) (ty := .int) rfl hK hP hD hS hA (fun _ => rfl) (nI_pos (by decide)) (nI_clamp (by decide)) (by decide) (by decide) (by decide) dX2_init_7 (fun q1 c1 H hK hP hD hS => ?_)
  have hK : va_K D vwCl [(c1, .int)] s := hK
  have hP : va_P D vwCl [(h0, .inr (1, [.null, .null, .null, .null])), (q1, .inl (c1, 16, .inl (fun _ => 0)))] H := hP
  have hD : va_D A [(h0, .inr (1, [.null, .null, .null, .null])), (q1, .inl (c1, 16, .inl (fun _ => 0)))] := hD
  refine W.widen (k := 1) (n := 16) (by decide) (by decide) ?_
  refine va_putF (D := D) (ci := 1) (v := .ref q1) (ty := .array .int) (C := RX2) (T := TX2) (N := 4) hx hb hts in_X2 tyX2 tyX2_ok nmX2 hown hK hP hD hS 0 rfl rfl 0 (by decide) (hts _ q235) (fun _ h9 => h9) rfl hin rfl (by decide +kernel) rfl rfl (Nat.le_of_ble_eq_true rfl) dX2_init_9 (fun H locs hP hD hS => ?_)
  have hP : va_P D vwCl [(h0, .inr (1, [.ref q1, .null, .null, .null])), (q1, .inl (c1, 16, .inl (fun _ => 0)))] H := hP
  have hD : va_D A [(h0, .inr (1, [.ref q1, .null, .null, .null])), (q1, .inl (c1, 16, .inl (fun _ => 0)))] := hD
  refine lv_aload_n hx hb dX2_init_12 rfl (lv_at hl 0 rfl) ?_
  refine lv_bipush (v := nI 16) hx hb dX2_init_13 (by decide) ?_
  refine va_newa (atype := .int) (a0 := (16, .inl (fun _ => 0))) hx hb (hts _ q79) (ty := .int) rfl hK hP hD hS hA (fun _ => rfl) (nI_pos (by decide)) (nI_clamp (by decide)) (by decide) (by decide) (by decide) dX2_init_15 (fun q2 c2 H hK hP hD hS => ?_)
  have hK : va_K D vwCl [(c1, .int), (c2, .int)] s := hK
  have hP : va_P D vwCl [(h0, .inr (1, [.ref q1, .null, .null, .null])), (q1, .inl (c1, 16, .inl (fun _ => 0))), (q2, .inl (c2, 16, .inl (fun _ => 0)))] H := hP
  have hD : va_D A [(h0, .inr (1, [.ref q1, .null, .null, .null])), (q1, .inl (c1, 16, .inl (fun _ => 0))), (q2, .inl (c2, 16, .inl (fun _ => 0)))] := hD
  refine W.widen (k := 2) (n := 32) (by decide) (by decide) ?_
  refine va_putF (D := D) (ci := 1) (v := .ref q2) (ty := .array .int) (C := RX2) (T := TX2) (N := 4) hx hb hts in_X2 tyX2 tyX2_ok nmX2 hown hK hP hD hS 0 rfl rfl 1 (by decide) (hts _ q236) (fun _ h9 => h9) rfl hin rfl (by decide +kernel) rfl rfl (Nat.le_of_ble_eq_true rfl) dX2_init_17 (fun H locs hP hD hS => ?_)
  have hP : va_P D vwCl [(h0, .inr (1, [.ref q1, .ref q2, .null, .null])), (q1, .inl (c1, 16, .inl (fun _ => 0))), (q2, .inl (c2, 16, .inl (fun _ => 0)))] H := hP
  have hD : va_D A [(h0, .inr (1, [.ref q1, .ref q2, .null, .null])), (q1, .inl (c1, 16, .inl (fun _ => 0))), (q2, .inl (c2, 16, .inl (fun _ => 0)))] := hD
  refine lv_aload_n hx hb dX2_init_20 rfl (lv_at hl 0 rfl) ?_
  refine lv_bipush (v := nI 16) hx hb dX2_init_21 (by decide) ?_
  refine va_newa (atype := .int) (a0 := (16, .inl (fun _ => 0))) hx hb (hts _ q79) (ty := .int) rfl hK hP hD hS hA (fun _ => rfl) (nI_pos (by decide)) (nI_clamp (by decide)) (by decide) (by decide) (by decide) dX2_init_23 (fun q3 c3 H hK hP hD hS => ?_)
  have hK : va_K D vwCl [(c1, .int), (c2, .int), (c3, .int)] s := hK
  have hP : va_P D vwCl [(h0, .inr (1, [.ref q1, .ref q2, .null, .null])), (q1, .inl (c1, 16, .inl (fun _ => 0))), (q2, .inl (c2, 16, .inl (fun _ => 0))), (q3, .inl (c3, 16, .inl (fun _ => 0)))] H := hP
  have hD : va_D A [(h0, .inr (1, [.ref q1, .ref q2, .null, .null])), (q1, .inl (c1, 16, .inl (fun _ => 0))), (q2, .inl (c2, 16, .inl (fun _ => 0))), (q3, .inl (c3, 16, .inl (fun _ => 0)))] := hD
  refine W.widen (k := 3) (n := 48) (by decide) (by decide) ?_
  refine va_putF (D := D) (ci := 1) (v := .ref q3) (ty := .array .int) (C := RX2) (T := TX2) (N := 4) hx hb hts in_X2 tyX2 tyX2_ok nmX2 hown hK hP hD hS 0 rfl rfl 2 (by decide) (hts _ q237) (fun _ h9 => h9) rfl hin rfl (by decide +kernel) rfl rfl (Nat.le_of_ble_eq_true rfl) dX2_init_25 (fun H locs hP hD hS => ?_)
  have hP : va_P D vwCl [(h0, .inr (1, [.ref q1, .ref q2, .ref q3, .null])), (q1, .inl (c1, 16, .inl (fun _ => 0))), (q2, .inl (c2, 16, .inl (fun _ => 0))), (q3, .inl (c3, 16, .inl (fun _ => 0)))] H := hP
  have hD : va_D A [(h0, .inr (1, [.ref q1, .ref q2, .ref q3, .null])), (q1, .inl (c1, 16, .inl (fun _ => 0))), (q2, .inl (c2, 16, .inl (fun _ => 0))), (q3, .inl (c3, 16, .inl (fun _ => 0)))] := hD
  refine lv_aload_n hx hb dX2_init_28 rfl (lv_at hl 0 rfl) ?_
  refine lv_iconst (v := nI 3) hx hb dX2_init_29 (by decide) ?_
  refine va_newa (atype := .boolean) (a0 := (3, .inl (fun _ => 0))) hx hb (hts _ q78) (ty := .boolean) rfl hK hP hD hS hA (fun _ => rfl) (nI_pos (by decide)) (nI_clamp (by decide)) (by decide) (by decide) (by decide) dX2_init_30 (fun q4 c4 H hK hP hD hS => ?_)
  have hK : va_K D vwCl [(c1, .int), (c2, .int), (c3, .int), (c4, .boolean)] s := hK
  have hP : va_P D vwCl [(h0, .inr (1, [.ref q1, .ref q2, .ref q3, .null])), (q1, .inl (c1, 16, .inl (fun _ => 0))), (q2, .inl (c2, 16, .inl (fun _ => 0))), (q3, .inl (c3, 16, .inl (fun _ => 0))), (q4, .inl (c4, 3, .inl (fun _ => 0)))] H := hP
  have hD : va_D A [(h0, .inr (1, [.ref q1, .ref q2, .ref q3, .null])), (q1, .inl (c1, 16, .inl (fun _ => 0))), (q2, .inl (c2, 16, .inl (fun _ => 0))), (q3, .inl (c3, 16, .inl (fun _ => 0))), (q4, .inl (c4, 3, .inl (fun _ => 0)))] := hD
  refine W.widen (k := 4) (n := 51) (by decide) (by decide) ?_
  refine va_putF (D := D) (ci := 1) (v := .ref q4) (ty := .array .boolean) (C := RX2) (T := TX2) (N := 4) hx hb hts in_X2 tyX2 tyX2_ok nmX2 hown hK hP hD hS 0 rfl rfl 3 (by decide) (hts _ q238) (fun _ h9 => h9) rfl hin rfl (by decide +kernel) rfl rfl (Nat.le_of_ble_eq_true rfl) dX2_init_32 (fun H locs hP hD hS => ?_)
  have hP : va_P D vwCl [(h0, .inr (1, [.ref q1, .ref q2, .ref q3, .ref q4])), (q1, .inl (c1, 16, .inl (fun _ => 0))), (q2, .inl (c2, 16, .inl (fun _ => 0))), (q3, .inl (c3, 16, .inl (fun _ => 0))), (q4, .inl (c4, 3, .inl (fun _ => 0)))] H := hP
  have hD : va_D A [(h0, .inr (1, [.ref q1, .ref q2, .ref q3, .ref q4])), (q1, .inl (c1, 16, .inl (fun _ => 0))), (q2, .inl (c2, 16, .inl (fun _ => 0))), (q3, .inl (c3, 16, .inl (fun _ => 0))), (q4, .inl (c4, 3, .inl (fun _ => 0)))] := hD
  obtain ⟨h, hh⟩ : ∃ h : Nat → Nat, h = fun k => [h0, q1, q2, q3, q4].getD k 0 := ⟨_, rfl⟩
  obtain ⟨d, hd⟩ : ∃ d : Nat → ClassId, d = fun k => [c1, c1, c2, c3, c4].getD k c1 := ⟨_, rfl⟩
  have hz0 : h 0 = h0 := by rw [hh]; rfl
  have hI : ob_I D 1 [] mdKs h d (fun _ _ => 0) A s.heap H locs := by rw [hh, hd]; exact ⟨hP, hD, hS⟩
  have hX : ob_X p m c cX2_init 3 s ([.ref h0, .int x] : List Value).toArray RX2 D d mdKs := by rw [hd]; exact ⟨⟨hx, hb, hml, hown, hts⟩, hK⟩
  rw [← hz0] at hl
  refine lv_iconst (v := nI 0) hx hb dX2_init_35 (by decide) ?_
  refine lv_istore_n (lv' := [(2, .int (nI 0)), (0, .ref (h 0)), (1, .int x)]) hx hb dX2_init_36 rfl hl (by decide) rfl (fun ls hl => ?_)
  have loop : ∀ (k i : Nat) (τ : FS) (H : Heap) (locs : List Loc) (ls : Array Slot), 16 < i + k → i ≤ 16 → (∀ j, j < i → τ 3 j = -4) → (∀ k, k ≠ 3 → ∀ j, τ k j = 0) → ob_I D 1 [] mdKs h d τ A s.heap H locs → lv_has ls 3 [(2, .int (nI i)), (0, .ref (h 0)), (1, .int x)] → W p l e rmX2_init s m ([.ref h0, .int x] : List Value).toArray below meth c H locs 4 51 Q (F0 m 37 ls []) := by
    intro k
    induction k with
    | zero => intro i τ H locs ls h1 h2; exact absurd h1 (by omega)
    | succ k ih =>
      intro i τ H locs ls hk hi h9 hz hI hl
      refine lv_iload_n hx hb dX2_init_37 rfl (lv_at hl 0 rfl) ?_
      refine lv_bipush (v := nI 16) hx hb dX2_init_38 (by decide) ?_
      refine n_icmp_ge (tgt := 57) hx hb dX2_init_40 (by decide) (by omega) (by omega) (fun q => ?_) (fun q => ?_)
      · skip
        obtain ⟨hP, hD, hS⟩ := hI
        rw [← hQe]
        exact W.vret hx hb hr (fun t ht hW => ⟨⟨(h, d, τ), rfl, ⟨hz0, fun b hb => h9 b (by omega), hz⟩, by rw [ht]; exact hP, va_K.moved hW.alike hX.2, hD⟩, hS.F ht⟩) hS.2.2 dX2_init_57
      · skip
        refine lv_aload_n hx hb dX2_init_43 rfl (lv_at hl 1 rfl) ?_
        refine md_g3 hX hI dX2_init_44 ?_
        refine lv_iload_n hx hb dX2_init_47 rfl (lv_at hl 0 rfl) ?_
        refine lv_bipush (v := (-4)) hx hb dX2_init_48 (by decide) ?_
        refine ob_st hX hI 3 rfl (i) (by omega) (by decide) dX2_init_50 (fun H locs hI => ?_)
        refine n_iinc (k := 0) (lv' := [(2, .int (nI (i + 1))), (0, .ref (h 0)), (1, .int x)]) hx hb dX2_init_51 hl rfl (by decide) rfl (fun ls hl => ?_)
        refine lv_goto (tgt := 37) hx hb dX2_init_54 (by decide) ?_
        exact ih (i + 1) _ H locs ls (by omega) (by omega) (lt_s (fun j hj => by rw [st_ne _ _ (Or.inr (by omega))]; exact h9 j hj) (st_at _ _ _ _)) (fun k k9 j => by rw [st_ne _ _ (Or.inl k9)]; exact hz k k9 j) hI hl
  exact loop 17 0 _ H locs ls (by omega) (Nat.zero_le _) (fun j hj => absurd hj (Nat.not_lt_zero j)) (fun _ _ _ => rfl) hI hl
end
section
/-! PURE: the system and the reference hold the same; each call keeps it so, and answers alike -/
set_option maxRecDepth 100000
/-- open writes U, home blocks hm, against the reference's arrays -/
def Rl (U : Nat → Nat → Option Int32) (hm : Nat → Int32) (μ : FS) : Prop :=
  (∀ b, b < 16 → hm b = μ 2 b) ∧ ∀ b, b < 16 → (μ 3 b = -4 ∧ (∀ n, n < 3 → U n b = none) ∧ μ 1 b = μ 2 b) ∨ ∃ n, n < 3 ∧ μ 3 b = nI n ∧ U n b = some (μ 1 b) ∧ ∀ m, m < 3 → m ≠ n → U m b = none
def Rn (rn dn : Nat → Int32) : Prop := ∀ n, n < 3 → (rn n = 0 ↔ dn n ≠ 0)
def Sy (R : Nat) (σ μ : FS) : Prop := ∃ (U : Nat → Nat → Option Int32) (K : Nat → Nat → Bool), fsInv σ R U K ∧ Rl U (σ 2) μ ∧ Rn (σ 1) (μ 4)
theorem nI_m4 {b : Nat} (h : b < 2 ^ 31) : nI b ≠ -4 := by
  intro q
  have h1 := nI_toInt h
  rw [q] at h1
  have h2 : (-4 : Int32).toInt = -4 := by decide
  omega
theorem Rl_own {U : Nat → Nat → Option Int32} {hm : Nat → Int32} {μ : FS} (h : Rl U hm μ) {n b : Nat} (hn : n < 3) (hb : b < 16) (hs : (U n b).isSome = true) : μ 3 b = nI n ∧ U n b = some (μ 1 b) ∧ ∀ m, m < 3 → m ≠ n → U m b = none := by
  rcases h.2 b hb with ⟨-, z, -⟩ | ⟨m, hm, e, u, o⟩
  · rw [z n hn] at hs
    cases hs
  · by_cases q : n = m
    · subst q
      exact ⟨e, u, o⟩
    · rw [o n hn q] at hs
      cases hs
theorem Rl_by {U : Nat → Nat → Option Int32} {hm : Nat → Int32} {μ : FS} (h : Rl U hm μ) {n b : Nat} (hn : n < 3) (hb : b < 16) (he : μ 3 b = nI n) : U n b = some (μ 1 b) ∧ ∀ m, m < 3 → m ≠ n → U m b = none := by
  rcases h.2 b hb with ⟨z, -, -⟩ | ⟨m, hm, e, u, o⟩
  · rw [he] at z
    exact absurd z (nI_m4 (by omega))
  · rw [he] at e
    have := nI_inj (by omega) (by omega) e
    subst this
    exact ⟨u, o⟩
theorem Rl_ext {U V : Nat → Nat → Option Int32} {hm hm' : Nat → Int32} {μ ν : FS} (h : Rl U hm μ) (hU : ∀ n, n < 3 → ∀ b, b < 16 → V n b = U n b) (hh : ∀ b, b < 16 → hm' b = hm b) (h1 : ∀ b, b < 16 → ν 1 b = μ 1 b) (h2 : ∀ b, b < 16 → ν 2 b = μ 2 b) (h3 : ∀ b, b < 16 → ν 3 b = μ 3 b) : Rl V hm' ν := by
  refine ⟨fun b hb => by rw [hh b hb, h2 b hb]; exact h.1 b hb, fun b hb => ?_⟩
  rw [h1 b hb, h2 b hb, h3 b hb]
  rcases h.2 b hb with ⟨z1, z2, z3⟩ | ⟨n, hn, e, u, o⟩
  · exact Or.inl ⟨z1, fun n hn => by rw [hU n hn b hb]; exact z2 n hn, z3⟩
  · exact Or.inr ⟨n, hn, e, by rw [hU n hn b hb]; exact u, fun m hm q => by rw [hU m hm b hb]; exact o m hm q⟩
/-- the content that a node sees, if no other node has an open write of the block -/
theorem Rl_val {U : Nat → Nat → Option Int32} {hm : Nat → Int32} {μ : FS} (h : Rl U hm μ) {n b : Nat} (hb : b < 16) (ho : ∀ a, a < 3 → a ≠ n → U a b = none) (hn : n < 3) : (U n b).getD (hm b) = μ 1 b := by
  rcases h.2 b hb with ⟨-, z2, z3⟩ | ⟨m, hm, e, u, o⟩
  · rw [z2 n hn, z3]
    exact h.1 b hb
  · by_cases q : m = n
    · subst q
      rw [u]
      rfl
    · rw [ho m hm q] at u
      cases u
theorem Rl_cnt {U : Nat → Nat → Option Int32} {hm : Nat → Int32} {μ : FS} (h : Rl U hm μ) {n : Nat} (hn : n < 3) : jn_ (U n) = ocx μ (nI n) := by
  refine fb_ct_cong (fun b hb => ?_)
  rw [Bool.eq_iff_iff, decide_eq_true_iff]
  constructor
  · intro hs
    exact (Rl_own h hn hb hs).1
  · intro he
    rw [(Rl_by h hn hb he).1]
    rfl
theorem mdSet_in {μ : FS} {x kp : Int32} {b : Nat} (hb : b < 16) (h : μ 3 b = x) : mdSet μ x kp 16 1 b = (if kp = 0 then μ 2 b else μ 1 b) ∧ mdSet μ x kp 16 2 b = (if kp = 0 then μ 2 b else μ 1 b) ∧ mdSet μ x kp 16 3 b = -4 := by
  simp [mdSet, hb, h]
theorem mdSet_out {μ : FS} {x kp : Int32} {b : Nat} (h : μ 3 b ≠ x) (k : Nat) : mdSet μ x kp 16 k b = μ k b := by
  simp [mdSet, h]
/-- a node's open writes are settled -/
theorem sim_settle {U : Nat → Nat → Option Int32} {hm hm' : Nat → Int32} {μ : FS} {m : Nat} {kp : Int32} (h : Rl U hm μ) (hm3 : m < 3) (hk : (kp ≠ 0 ∧ ∀ c, c < 16 → hm' c = (U m c).getD (hm c)) ∨ (kp = 0 ∧ ∀ c, c < 16 → hm' c = hm c)) : Rl (va_up U m (fun _ => none)) hm' (mdSet μ (nI m) kp 16) := by
  have hno : ∀ c, c < 16 → μ 3 c ≠ nI m → U m c = none ∧ hm' c = hm c := by
    intro c hc q
    have hu : U m c = none := by
      cases z : U m c with
      | none => rfl
      | some v => exact absurd (Rl_own h hm3 hc (by rw [z]; rfl)).1 q
    refine ⟨hu, ?_⟩
    rcases hk with ⟨-, z⟩ | ⟨-, z⟩
    · rw [z c hc, hu]
      rfl
    · exact z c hc
  have hall : ∀ c, c < 16 → μ 3 c = nI m → ∀ n, n < 3 → va_up U m (fun _ => none) n c = none := by
    intro c hc q n hn
    by_cases e : n = m
    · rw [e, up_s]
    · rw [up_n _ _ e]
      exact (Rl_by h hm3 hc q).2 n hn e
  refine ⟨fun c hc => ?_, fun c hc => ?_⟩
  · by_cases q : μ 3 c = nI m
    · rw [(mdSet_in hc q).2.1]
      rcases hk with ⟨k, z⟩ | ⟨k, z⟩
      · rw [if_neg k, z c hc, (Rl_by h hm3 hc q).1]
        rfl
      · rw [if_pos k, z c hc]
        exact h.1 c hc
    · rw [mdSet_out q, (hno c hc q).2]
      exact h.1 c hc
  · by_cases q : μ 3 c = nI m
    · obtain ⟨z1, z2, z3⟩ := mdSet_in (kp := kp) hc q
      rw [z1, z2, z3]
      exact Or.inl ⟨rfl, hall c hc q, rfl⟩
    · rw [mdSet_out q, mdSet_out q, mdSet_out q]
      have hcol : ∀ n, va_up U m (fun _ => none) n c = U n c := by
        intro n
        by_cases e : n = m
        · rw [e, up_s, (hno c hc q).1]
        · rw [up_n _ _ e]
      rcases h.2 c hc with ⟨z1, z2, z3⟩ | ⟨n, hn, e, u, o⟩
      · exact Or.inl ⟨z1, fun n hn => by rw [hcol]; exact z2 n hn, z3⟩
      · exact Or.inr ⟨n, hn, e, by rw [hcol]; exact u, fun a ha hne => by rw [hcol]; exact o a ha hne⟩
theorem sim_take {U U' : Nat → Nat → Option Int32} {hm hm' : Nat → Int32} {μ : FS} {n b : Nat} (h : Rl U hm μ) (hn : n < 3) (hb : b < 16) (hS : StF n b U hm U' hm') : Rl U' hm' (mdT μ n b) := by
  obtain ⟨hS, ho⟩ := hS
  rcases hS with ⟨e, hh⟩ | ⟨m, hm3, hmn, hmu, e, hh⟩
  · subst e
    have hT : mdT μ n b = μ := by
      unfold mdT
      refine if_pos ?_
      rcases h.2 b hb with ⟨z, -, -⟩ | ⟨m, hm, e, u, o⟩
      · left
        rw [z]
        decide
      · right
        by_cases q : m = n
        · rw [e, q]
        · rw [ho m hm q] at u
          cases u
    rw [hT]
    exact Rl_ext h (fun _ _ _ _ => rfl) hh (fun _ _ => rfl) (fun _ _ => rfl) (fun _ _ => rfl)
  · subst e
    obtain ⟨e3, -, -⟩ := Rl_own h hm3 hb hmu
    have hT : mdT μ n b = mdSet μ (nI m) 1 16 := by
      unfold mdT
      rw [e3]
      refine if_neg ?_
      rintro (z | z)
      · exact nI_pos (by omega) z
      · exact hmn (nI_inj (by omega) (by omega) z)
    rw [hT]
    exact sim_settle h hm3 (Or.inl ⟨by decide, hh⟩)
theorem sim_write {U : Nat → Nat → Option Int32} {hm : Nat → Int32} {μ : FS} {n b : Nat} {v : Int32} (h : Rl U hm μ) (hn : n < 3) (ho : ∀ a, a < 3 → a ≠ n → U a b = none) : Rl (wr_ U n b v) hm (st_ (st_ μ 1 b v) 3 b (nI n)) := by
  refine ⟨fun c hc => ?_, fun c hc => ?_⟩
  · rw [st_ne _ _ (Or.inl (by decide)), st_ne _ _ (Or.inl (by decide))]
    exact h.1 c hc
  · by_cases q : c = b
    · subst q
      refine Or.inr ⟨n, hn, st_at _ _ _ _, ?_, fun m hm hne => ?_⟩
      · unfold wr_
        rw [up_s, up_s, st_ne _ _ (Or.inl (by decide)), st_at]
      · unfold wr_
        rw [up_n _ _ hne]
        exact ho m hm hne
    · rw [st_ne _ _ (Or.inr q), st_ne _ _ (Or.inr q), st_ne _ _ (Or.inr q), st_ne _ _ (Or.inr q), st_ne _ _ (Or.inr q), st_ne _ _ (Or.inr q)]
      have hcol : ∀ m, wr_ U n b v m c = U m c := by
        intro m
        unfold wr_
        by_cases e : m = n
        · rw [e, up_s, up_n _ _ q]
        · rw [up_n _ _ e]
      rcases h.2 c hc with ⟨z1, z2, z3⟩ | ⟨m, hm, e, u, o⟩
      · exact Or.inl ⟨z1, fun m hm => by rw [hcol]; exact z2 m hm, z3⟩
      · exact Or.inr ⟨m, hm, e, by rw [hcol]; exact u, fun a ha hne => by rw [hcol]; exact o a ha hne⟩
theorem gX_both {N : Nat} {x : Int32} {P P' : Prop} {Q Q' : Nat → Prop} (hN : N ≤ 2 ^ 30) (h1 : gX N x P Q) (h2 : gX N x P' Q') : (P ∧ P') ∨ ∃ n, n < N ∧ x = nI n ∧ Q n ∧ Q' n := by
  rcases h1 with ⟨o, p⟩ | ⟨n, hn, rfl, q⟩
  · rcases h2 with ⟨-, p'⟩ | ⟨n, hn, rfl, q'⟩
    · exact Or.inl ⟨p, p'⟩
    · exact absurd rfl (o n hn)
  · exact Or.inr ⟨n, hn, rfl, q, (gX_in hN hn).mp h2⟩
/-- a node up on one side is up on the other -/
theorem Rn_both {rn dn : Nat → Int32} {n : Nat} {P1 P2 Q1 Q2 : Prop} (h : Rn rn dn) (hn : n < 3) (h1 : (rn n = 0 ∧ P1) ∨ (rn n ≠ 0 ∧ P2)) (h2 : (dn n ≠ 0 ∧ Q1) ∨ (dn n = 0 ∧ Q2)) : (P1 ∧ Q1) ∨ (rn n ≠ 0 ∧ P2 ∧ dn n = 0 ∧ Q2) := by
  rcases h1 with ⟨a, p⟩ | ⟨a, p⟩
  · rcases h2 with ⟨b, q⟩ | ⟨b, q⟩
    · exact Or.inl ⟨p, q⟩
    · exact absurd b ((h n hn).mp a)
  · rcases h2 with ⟨b, q⟩ | ⟨b, q⟩
    · exact absurd ((h n hn).mpr b) a
    · exact Or.inr ⟨a, p, b, q⟩
theorem sim_read {R : Nat} {σ μ σ1 μ1 : FS} {U : Nat → Nat → Option Int32} {K : Nat → Nat → Bool} {x y v w : Int32} (hV : fsInv σ R U K) (hL : Rl U (σ 2) μ) (hN : Rn (σ 1) (μ 4))
    (p1 : gX 3 x (v = -1 ∧ σ1 = σ) (fun n => gX 16 y (v = -2 ∧ σ1 = σ) (fun b => (σ 1 n = 0 ∧ v = -3 ∧ σ1 = σ) ∨ (σ 1 n ≠ 0 ∧ pR R σ U n b v σ1))))
    (p2 : gX 3 x (w = -1 ∧ μ1 = μ) (fun n => gX 16 y (w = -2 ∧ μ1 = μ) (fun b => (μ 4 n ≠ 0 ∧ w = -3 ∧ μ1 = μ) ∨ (μ 4 n = 0 ∧ w = mdT μ n b 1 b ∧ μ1 = mdT μ n b)))) : v = w ∧ Sy R σ1 μ1 := by
  rcases gX_both (by decide) p1 p2 with ⟨⟨a, b⟩, c, d⟩ | ⟨n, hn, -, p1, p2⟩
  · exact ⟨a.trans c.symm, by rw [b, d]; exact ⟨U, K, hV, hL, hN⟩⟩
  rcases gX_both (by decide) p1 p2 with ⟨⟨a, b⟩, c, d⟩ | ⟨b, hb, -, p1, p2⟩
  · exact ⟨a.trans c.symm, by rw [b, d]; exact ⟨U, K, hV, hL, hN⟩⟩
  rcases Rn_both hN hn p1 p2 with ⟨⟨a, b⟩, c, d⟩ | ⟨-, ⟨U1, K1, hV1, hS, hv, h1⟩, -, hw, rfl⟩
  · exact ⟨a.trans c.symm, by rw [b, d]; exact ⟨U, K, hV, hL, hN⟩⟩
  have hL1 := sim_take hL hn hb hS
  exact ⟨by rw [hv, hw]; exact Rl_val hL1 hb hS.2 hn, U1, K1, hV1, hL1, by rw [h1, mdT_4]; exact hN⟩
theorem sim_wrt {U U1 : Nat → Nat → Option Int32} {hm hm1 : Nat → Int32} {μ : FS} {n b : Nat} {z : Int32} (hL : Rl U hm μ) (hn : n < 3) (hb : b < 16) (hS : StF n b U hm U1 hm1) : Rl (wr_ U1 n b z) hm1 (mdW μ n b z) := sim_write (sim_take hL hn hb hS) hn hS.2
theorem sim_writ {R : Nat} {σ μ σ1 μ1 : FS} {U : Nat → Nat → Option Int32} {K : Nat → Nat → Bool} {x y z v w : Int32} (hV : fsInv σ R U K) (hL : Rl U (σ 2) μ) (hN : Rn (σ 1) (μ 4))
    (p1 : gX 3 x (v = -1 ∧ σ1 = σ) (fun n => gX 16 y (v = -2 ∧ σ1 = σ) (fun b => (σ 1 n = 0 ∧ v = -3 ∧ σ1 = σ) ∨ (σ 1 n ≠ 0 ∧ pW R σ U n b z v σ1))))
    (p2 : gX 3 x (w = -1 ∧ μ1 = μ) (fun n => gX 16 y (w = -2 ∧ μ1 = μ) (fun b => (μ 4 n ≠ 0 ∧ w = -3 ∧ μ1 = μ) ∨ (μ 4 n = 0 ∧ w = nI (ocx (mdW μ n b z) (nI n)) ∧ μ1 = mdW μ n b z)))) : v = w ∧ Sy R σ1 μ1 := by
  rcases gX_both (by decide) p1 p2 with ⟨⟨a, b⟩, c, d⟩ | ⟨n, hn, -, p1, p2⟩
  · exact ⟨a.trans c.symm, by rw [b, d]; exact ⟨U, K, hV, hL, hN⟩⟩
  rcases gX_both (by decide) p1 p2 with ⟨⟨a, b⟩, c, d⟩ | ⟨b, hb, -, p1, p2⟩
  · exact ⟨a.trans c.symm, by rw [b, d]; exact ⟨U, K, hV, hL, hN⟩⟩
  rcases Rn_both hN hn p1 p2 with ⟨⟨a, b⟩, c, d⟩ | ⟨-, ⟨U1, K1, hV1, hS, hv, h1⟩, -, hw, rfl⟩
  · exact ⟨a.trans c.symm, by rw [b, d]; exact ⟨U, K, hV, hL, hN⟩⟩
  have hL1 := sim_wrt (z := z) hL hn hb hS
  exact ⟨by rw [hv, hw, Rl_cnt hL1 hn], _, K1, hV1, hL1, by rw [h1, mdW_4]; exact hN⟩
theorem sim_swap {R : Nat} {σ μ σ1 μ1 : FS} {U : Nat → Nat → Option Int32} {K : Nat → Nat → Bool} {x y z v w : Int32} (hV : fsInv σ R U K) (hL : Rl U (σ 2) μ) (hN : Rn (σ 1) (μ 4))
    (p1 : gX 3 x (v = -1 ∧ σ1 = σ) (fun n => gX 16 y (v = -2 ∧ σ1 = σ) (fun a => gX 16 z (v = -2 ∧ σ1 = σ) (fun b => (σ 1 n = 0 ∧ v = -3 ∧ σ1 = σ) ∨ (σ 1 n ≠ 0 ∧ pS R σ U n a b v σ1)))))
    (p2 : gX 3 x (w = -1 ∧ μ1 = μ) (fun n => gX 16 y (w = -2 ∧ μ1 = μ) (fun a => gX 16 z (w = -2 ∧ μ1 = μ) (fun b => (μ 4 n ≠ 0 ∧ w = -3 ∧ μ1 = μ) ∨ (μ 4 n = 0 ∧ ∃ μ2 μ4 : FS, μ2 = mdT (mdT μ n a) n b ∧ μ4 = mdW (mdW μ2 n a (μ2 1 b)) n b (mdT μ n a 1 a) ∧ w = nI (ocx μ4 (nI n)) ∧ μ1 = μ4))))) : v = w ∧ Sy R σ1 μ1 := by
  rcases gX_both (by decide) p1 p2 with ⟨⟨a, b⟩, c, d⟩ | ⟨n, hn, -, p1, p2⟩
  · exact ⟨a.trans c.symm, by rw [b, d]; exact ⟨U, K, hV, hL, hN⟩⟩
  rcases gX_both (by decide) p1 p2 with ⟨⟨a, b⟩, c, d⟩ | ⟨a, ha, -, p1, p2⟩
  · exact ⟨a.trans c.symm, by rw [b, d]; exact ⟨U, K, hV, hL, hN⟩⟩
  rcases gX_both (by decide) p1 p2 with ⟨⟨a, b⟩, c, d⟩ | ⟨b, hb, -, p1, p2⟩
  · exact ⟨a.trans c.symm, by rw [b, d]; exact ⟨U, K, hV, hL, hN⟩⟩
  rcases Rn_both hN hn p1 p2 with ⟨⟨a, b⟩, c, d⟩ | ⟨-, ⟨U1, h1, U2, h2, U3, h3, U4, K4, x1, y1, hS1, hx1, hS2, hy1, hS3, hS4, hV4, hv, h11⟩, -, μ2, μ4, e2, e4, hw, rfl⟩
  · exact ⟨a.trans c.symm, by rw [b, d]; exact ⟨U, K, hV, hL, hN⟩⟩
  have hL1 := sim_take hL hn ha hS1
  have q1 : x1 = mdT μ n a 1 a := by rw [hx1]; exact Rl_val hL1 ha hS1.2 hn
  have hL2 := sim_take hL1 hn hb hS2
  rw [← e2] at hL2
  have q2 : y1 = μ2 1 b := by rw [hy1]; exact Rl_val hL2 hb hS2.2 hn
  have hL3 := sim_wrt (z := y1) hL2 hn ha hS3
  have hL4 := sim_wrt (z := x1) hL3 hn hb hS4
  rw [← q1, ← q2] at e4
  rw [← e4] at hL4
  have h4 : μ1 4 = μ 4 := by rw [e4, mdW_4, mdW_4, e2, mdT_4, mdT_4]
  exact ⟨by rw [hv, hw, Rl_cnt hL4 hn], _, K4, hV4, hL4, by rw [h11, h4]; exact hN⟩
end
section
/-! PURE: the other calls, and the start -/
set_option maxRecDepth 100000
theorem sim_sync {R : Nat} {σ μ σ1 μ1 : FS} {U : Nat → Nat → Option Int32} {K : Nat → Nat → Bool} {x v w : Int32} (hV : fsInv σ R U K) (hL : Rl U (σ 2) μ) (hN : Rn (σ 1) (μ 4))
    (p1 : gX 3 x (v = -1 ∧ σ1 = σ) (fun n => (σ 1 n = 0 ∧ v = -3 ∧ σ1 = σ) ∨ (σ 1 n ≠ 0 ∧ pY R σ U n v σ1)))
    (p2 : gX 3 x (w = -1 ∧ μ1 = μ) (fun n => (μ 4 n ≠ 0 ∧ w = -3 ∧ μ1 = μ) ∨ (μ 4 n = 0 ∧ w = nI (ocx μ (nI n)) ∧ μ1 = mdSet μ (nI n) 1 16))) : v = w ∧ Sy R σ1 μ1 := by
  rcases gX_both (by decide) p1 p2 with ⟨⟨a, b⟩, c, d⟩ | ⟨n, hn, -, p1, p2⟩
  · exact ⟨a.trans c.symm, by rw [b, d]; exact ⟨U, K, hV, hL, hN⟩⟩
  rcases Rn_both hN hn p1 p2 with ⟨⟨a, b⟩, c, d⟩ | ⟨-, ⟨⟨K1, hV1⟩, hh, hv, h1⟩, -, hw, rfl⟩
  · exact ⟨a.trans c.symm, by rw [b, d]; exact ⟨U, K, hV, hL, hN⟩⟩
  exact ⟨by rw [hv, hw, Rl_cnt hL hn], _, K1, hV1, sim_settle hL hn (Or.inl ⟨by decide, hh⟩), by rw [h1, mdSet_4]; exact hN⟩
/-- the node falls on both sides -/
theorem Rn_fall {rn dn : Nat → Int32} (h : Rn rn dn) (n : Nat) : Rn (upd rn n 0) (upd dn n 1) := by
  intro m hm
  by_cases e : m = n
  · subst e
    simp [upd]
  · simp only [upd, if_neg e]
    exact h m hm
theorem Rn_rise {rn dn : Nat → Int32} (h : Rn rn dn) (n : Nat) : Rn (upd rn n 1) (upd dn n 0) := by
  intro m hm
  by_cases e : m = n
  · subst e
    simp [upd]
  · simp only [upd, if_neg e]
    exact h m hm
theorem Rl_dn {U : Nat → Nat → Option Int32} {hm : Nat → Int32} {μ : FS} (h : Rl U hm μ) (n : Nat) (x : Int32) : Rl U hm (st_ μ 4 n x) := Rl_ext h (fun _ _ _ _ => rfl) (fun _ _ => rfl) (fun _ _ => st_ne _ _ (Or.inl (by decide))) (fun _ _ => st_ne _ _ (Or.inl (by decide))) (fun _ _ => st_ne _ _ (Or.inl (by decide)))
theorem sim_crash {R : Nat} {σ μ σ1 μ1 : FS} {U : Nat → Nat → Option Int32} {K : Nat → Nat → Bool} {x lt v w : Int32} (hV : fsInv σ R U K) (hL : Rl U (σ 2) μ) (hN : Rn (σ 1) (μ 4))
    (p1 : gX 3 x (v = -1 ∧ σ1 = σ) (fun n => (σ 1 n = 0 ∧ v = -3 ∧ σ1 = σ) ∨ (σ 1 n ≠ 0 ∧ pC R σ U n lt v σ1)))
    (p2 : gX 3 x (w = -1 ∧ μ1 = μ) (fun n => (μ 4 n ≠ 0 ∧ w = -3 ∧ μ1 = μ) ∨ (μ 4 n = 0 ∧ w = nI (ocx μ (nI n)) ∧ μ1 = mdSet (st_ μ 4 n 1) (nI n) lt 16))) : v = w ∧ Sy R σ1 μ1 := by
  rcases gX_both (by decide) p1 p2 with ⟨⟨a, b⟩, c, d⟩ | ⟨n, hn, -, p1, p2⟩
  · exact ⟨a.trans c.symm, by rw [b, d]; exact ⟨U, K, hV, hL, hN⟩⟩
  rcases Rn_both hN hn p1 p2 with ⟨⟨a, b⟩, c, d⟩ | ⟨-, ⟨⟨K1, hV1⟩, hh1, hh2, hv, h1⟩, -, hw, rfl⟩
  · exact ⟨a.trans c.symm, by rw [b, d]; exact ⟨U, K, hV, hL, hN⟩⟩
  refine ⟨by rw [hv, hw, Rl_cnt hL hn], _, K1, hV1, sim_settle (Rl_dn hL n 1) hn ?_, by rw [h1, mdSet_4, st_k]; exact Rn_fall hN n⟩
  by_cases e : lt = 0
  · exact Or.inr ⟨e, hh2 e⟩
  · exact Or.inl ⟨e, hh1 e⟩
theorem fsInv_rn {σ : FS} {R n : Nat} {U : Nat → Nat → Option Int32} {K : Nat → Nat → Bool} (h : fsInv σ R U K) (x : Int32) : fsInv (st_ σ 1 n x) R U K := fsInv_frame h (fun k k1 _ _ => st_o _ _ _ k1) (fun m hm b hb z => by rw [st_o _ _ _ (by decide)]; exact h.2.2.2 m hm b hb z)
theorem sim_restart {R : Nat} {σ μ σ1 μ1 : FS} {U : Nat → Nat → Option Int32} {K : Nat → Nat → Bool} {x v w : Int32} (hV : fsInv σ R U K) (hL : Rl U (σ 2) μ) (hN : Rn (σ 1) (μ 4))
    (p1 : gX 3 x (v = -1 ∧ σ1 = σ) (fun n => ((σ 1 n = 0 ∧ v = 1) ∨ (σ 1 n ≠ 0 ∧ v = 0)) ∧ σ1 = st_ σ 1 n 1))
    (p2 : gX 3 x (w = -1 ∧ μ1 = μ) (fun n => ((μ 4 n ≠ 0 ∧ w = 1) ∨ (μ 4 n = 0 ∧ w = 0)) ∧ μ1 = st_ μ 4 n 0)) : v = w ∧ Sy R σ1 μ1 := by
  rcases gX_both (by decide) p1 p2 with ⟨⟨a, b⟩, c, d⟩ | ⟨n, hn, -, ⟨p3, e1⟩, p4, e2⟩
  · exact ⟨a.trans c.symm, by rw [b, d]; exact ⟨U, K, hV, hL, hN⟩⟩
  subst e1
  subst e2
  have hS : Sy R (st_ σ 1 n 1) (st_ μ 4 n 0) := ⟨U, K, fsInv_rn hV 1, by rw [st_o _ _ _ (show 2 ≠ 1 by decide)]; exact Rl_dn hL n 0, by rw [st_k, st_k]; exact Rn_rise hN n⟩
  rcases Rn_both hN hn p3 p4 with ⟨a, b⟩ | ⟨-, a, -, b⟩
  · exact ⟨a.trans b.symm, hS⟩
  · exact ⟨a.trans b.symm, hS⟩
theorem mdP_4 (μ : FS) : ∀ i n, n < i → mdP μ i 4 n = 0
  | 0, n, h => absurd h (Nat.not_lt_zero n)
  | i + 1, n, h => by
    show st_ (mdSet (mdP μ i) (nI i) 0 16) 4 i 0 4 n = 0
    by_cases e : n = i
    · rw [e, st_at]
    · rw [st_ne _ _ (Or.inr e), mdSet_4]
      exact mdP_4 μ i n (by omega)
theorem sim_cut {U : Nat → Nat → Option Int32} {hm : Nat → Int32} {μ : FS} (h : Rl U hm μ) : ∀ i, i ≤ 3 → Rl (fun a c => if a < i then none else U a c) hm (mdP μ i) ∧ mdPs μ i = sm_ U i
  | 0, _ => ⟨by simpa [mdP] using h, rfl⟩
  | i + 1, hi => by
    obtain ⟨h1, h2⟩ := sim_cut h i (by omega)
    have h3 := sim_settle (kp := 0) (hm' := hm) h1 (show i < 3 by omega) (Or.inr ⟨rfl, fun _ _ => rfl⟩)
    have e : va_up (fun a c => if a < i then none else U a c) i (fun _ => none) = fun a c => if a < i + 1 then none else U a c := by
      funext a c
      by_cases q : a = i
      · subst q
        simp [va_up]
      · by_cases r : a < i
        · simp [va_up, q, r, show a < i + 1 by omega]
        · simp [va_up, q, r, show ¬ a < i + 1 by omega]
    rw [e] at h3
    refine ⟨Rl_dn h3 i 0, ?_⟩
    show mdPs μ i + ocx (mdP μ i) (nI i) = sm_ U i + jn_ (U i)
    rw [h2, ← Rl_cnt h1 (show i < 3 by omega)]
    simp
theorem sim_power {R : Nat} {σ μ σ1 μ1 : FS} {U : Nat → Nat → Option Int32} {v w : Int32} (hL : Rl U (σ 2) μ)
    (p1 : (∃ (U1 : Nat → Nat → Option Int32) (K1 : Nat → Nat → Bool), fsInv σ1 R U1 K1 ∧ ∀ n, n < 3 → ∀ b, U1 n b = none) ∧ (∀ b, b < 16 → σ1 2 b = σ 2 b) ∧ (∀ n, n < 3 → σ1 1 n = 1) ∧ v = nI (sm_ U 3))
    (p2 : μ1 = mdP μ 3 ∧ w = nI (mdPs μ 3)) : v = w ∧ Sy R σ1 μ1 := by
  obtain ⟨⟨U1, K1, hV1, hno⟩, hh, h1, hv⟩ := p1
  obtain ⟨e, hw⟩ := p2
  subst e
  obtain ⟨h3, h4⟩ := sim_cut hL 3 (by decide)
  refine ⟨by rw [hv, hw, h4], U1, K1, hV1, Rl_ext h3 (fun n hn b hb => by rw [hno n hn b, if_pos hn]) hh (fun _ _ => rfl) (fun _ _ => rfl) (fun _ _ => rfl), fun n hn => ?_⟩
  rw [h1 n hn, mdP_4 μ 3 n hn]
  simp
theorem sim_content {R : Nat} {σ μ σ1 μ1 : FS} {U : Nat → Nat → Option Int32} {K : Nat → Nat → Bool} {x v w : Int32} (hV : fsInv σ R U K) (hL : Rl U (σ 2) μ) (hN : Rn (σ 1) (μ 4))
    (p1 : gX 16 x (v = -2 ∧ σ1 = σ) (fun b => (((∀ n, n < 3 → U n b = none) ∧ v = σ 2 b) ∨ ∃ n, n < 3 ∧ U n b = some v) ∧ σ1 = σ))
    (p2 : gX 16 x (w = -2 ∧ μ1 = μ) (fun b => w = μ 1 b ∧ μ1 = μ)) : v = w ∧ Sy R σ1 μ1 := by
  rcases gX_both (by decide) p1 p2 with ⟨⟨a, b⟩, c, d⟩ | ⟨b, hb, -, ⟨p1, e1⟩, p2, e2⟩
  · exact ⟨a.trans c.symm, by rw [b, d]; exact ⟨U, K, hV, hL, hN⟩⟩
  refine ⟨?_, by rw [e1, e2]; exact ⟨U, K, hV, hL, hN⟩⟩
  rcases p1 with ⟨hno, hv⟩ | ⟨n, hn, hu⟩
  · rw [hv, p2]
    rcases hL.2 b hb with ⟨-, -, z⟩ | ⟨m, hm, -, u, -⟩
    · rw [z]
      exact hL.1 b hb
    · rw [hno m hm] at u
      cases u
  · rw [p2]
    have := (Rl_own hL hn hb (by rw [hu]; rfl)).2.1
    rw [hu] at this
    exact Option.some.inj this
theorem sim_safeq {R : Nat} {σ μ σ1 μ1 : FS} {U : Nat → Nat → Option Int32} {K : Nat → Nat → Bool} {x v w : Int32} (hV : fsInv σ R U K) (hL : Rl U (σ 2) μ) (hN : Rn (σ 1) (μ 4))
    (p1 : gX 16 x (v = -2 ∧ σ1 = σ) (fun b => v = σ 2 b ∧ σ1 = σ))
    (p2 : gX 16 x (w = -2 ∧ μ1 = μ) (fun b => w = μ 2 b ∧ μ1 = μ)) : v = w ∧ Sy R σ1 μ1 := by
  rcases gX_both (by decide) p1 p2 with ⟨⟨a, b⟩, c, d⟩ | ⟨b, hb, -, ⟨p1, e1⟩, p2, e2⟩
  · exact ⟨a.trans c.symm, by rw [b, d]; exact ⟨U, K, hV, hL, hN⟩⟩
  exact ⟨by rw [p1, p2]; exact hL.1 b hb, by rw [e1, e2]; exact ⟨U, K, hV, hL, hN⟩⟩
theorem sim_owner {R : Nat} {σ μ σ1 μ1 : FS} {U : Nat → Nat → Option Int32} {K : Nat → Nat → Bool} {x v w : Int32} (hV : fsInv σ R U K) (hL : Rl U (σ 2) μ) (hN : Rn (σ 1) (μ 4))
    (p1 : gX 16 x (v = -2 ∧ σ1 = σ) (fun b => ((v = -4 ∧ ∀ n, n < 3 → U n b = none) ∨ ∃ n, n < 3 ∧ v = nI n ∧ (U n b).isSome = true) ∧ σ1 = σ))
    (p2 : gX 16 x (w = -2 ∧ μ1 = μ) (fun b => w = μ 3 b ∧ μ1 = μ)) : v = w ∧ Sy R σ1 μ1 := by
  rcases gX_both (by decide) p1 p2 with ⟨⟨a, b⟩, c, d⟩ | ⟨b, hb, -, ⟨p1, e1⟩, p2, e2⟩
  · exact ⟨a.trans c.symm, by rw [b, d]; exact ⟨U, K, hV, hL, hN⟩⟩
  refine ⟨?_, by rw [e1, e2]; exact ⟨U, K, hV, hL, hN⟩⟩
  rcases p1 with ⟨hv, hno⟩ | ⟨n, hn, hv, hu⟩
  · rw [hv, p2]
    rcases hL.2 b hb with ⟨z, -, -⟩ | ⟨m, hm, -, u, -⟩
    · exact z.symm
    · rw [hno m hm] at u
      cases u
  · rw [hv, p2]
    exact (Rl_own hL hn hb hu).1.symm
theorem sim_count {R : Nat} {σ μ σ1 μ1 : FS} {U : Nat → Nat → Option Int32} {K : Nat → Nat → Bool} {x v w : Int32} (hV : fsInv σ R U K) (hL : Rl U (σ 2) μ) (hN : Rn (σ 1) (μ 4))
    (p1 : gX 3 x (v = -1 ∧ σ1 = σ) (fun n => v = nI (jn_ (U n)) ∧ σ1 = σ))
    (p2 : gX 3 x (w = -1 ∧ μ1 = μ) (fun n => w = nI (ocx μ (nI n)) ∧ μ1 = μ)) : v = w ∧ Sy R σ1 μ1 := by
  rcases gX_both (by decide) p1 p2 with ⟨⟨a, b⟩, c, d⟩ | ⟨n, hn, -, ⟨p1, e1⟩, p2, e2⟩
  · exact ⟨a.trans c.symm, by rw [b, d]; exact ⟨U, K, hV, hL, hN⟩⟩
  exact ⟨by rw [p1, p2, Rl_cnt hL hn], by rw [e1, e2]; exact ⟨U, K, hV, hL, hN⟩⟩
theorem sim_up {R : Nat} {σ μ σ1 μ1 : FS} {U : Nat → Nat → Option Int32} {K : Nat → Nat → Bool} {x v w : Int32} (hV : fsInv σ R U K) (hL : Rl U (σ 2) μ) (hN : Rn (σ 1) (μ 4))
    (p1 : gX 3 x (v = 0 ∧ σ1 = σ) (fun n => ((σ 1 n = 0 ∧ v = 0) ∨ (σ 1 n ≠ 0 ∧ v = 1)) ∧ σ1 = σ))
    (p2 : gX 3 x (w = 0 ∧ μ1 = μ) (fun n => ((μ 4 n ≠ 0 ∧ w = 0) ∨ (μ 4 n = 0 ∧ w = 1)) ∧ μ1 = μ)) : v = w ∧ Sy R σ1 μ1 := by
  rcases gX_both (by decide) p1 p2 with ⟨⟨a, b⟩, c, d⟩ | ⟨n, hn, -, ⟨p1, e1⟩, p2, e2⟩
  · exact ⟨a.trans c.symm, by rw [b, d]; exact ⟨U, K, hV, hL, hN⟩⟩
  refine ⟨?_, by rw [e1, e2]; exact ⟨U, K, hV, hL, hN⟩⟩
  rcases Rn_both hN hn p1 p2 with ⟨a, b⟩ | ⟨-, a, -, b⟩
  · exact a.trans b.symm
  · exact a.trans b.symm
theorem sim_start {R : Nat} {σ μ : FS} (h2 : 2 ≤ R) (h8 : R ≤ 8) (hs : fs_ini σ) (hm : md_ini μ) : Sy R σ μ := by
  obtain ⟨s9, s1, s0⟩ := hs
  obtain ⟨m3, m0⟩ := hm
  refine ⟨fun _ _ => none, fun _ _ => false, ⟨⟨fun _ _ => none, fun _ _ => none, ⟨h2, h8, fun n hn => ⟨fsJ_none (s0 3 (by decide) (by decide) n), ?_⟩⟩, fun n hn b hb => ⟨rfl, rfl, fun q hq => (by cases hq)⟩⟩, fun n hn => s0 7 (by decide) (by decide) n, fun n m _ _ _ b _ z => (by cases z), fun n _ b _ z => (by rcases z with z | z <;> cases z)⟩, ⟨fun b hb => ?_, fun b hb => Or.inl ⟨m3 b hb, fun _ _ => rfl, ?_⟩⟩, fun n hn => ?_⟩
  · refine ⟨⟨0, by omega, s0 12 (by decide) (by decide) n⟩, fun i hi => Or.inl ⟨s9 _ (by omega), s0 11 (by decide) (by decide) _⟩, fun b _ z => (by cases z), fun i j hi _ _ hne => absurd (s9 _ (by omega)) hne⟩
  · rw [s0 2 (by decide) (by decide), m0 2 (by decide)]
  · rw [m0 1 (by decide), m0 2 (by decide)]
  · rw [s1 n hn, m0 4 (by decide)]
    simp
end
section
/-! THE LAW: rows for its two objects, its script, its calls -/
set_option maxRecDepth 100000
def la_w (R : Nat) (h : Nat → Nat) (d : Nat → ClassId) (σ : FS) (g : Nat → Nat) (d2 : Nat → ClassId) (μ : FS) : va_W := ob_w 0 [.int (nI R)] fsKs h d σ ++ ob_w 1 [] mdKs g d2 μ
def la_I (D : va_G) (R : Nat) (h : Nat → Nat) (d : Nat → ClassId) (σ : FS) (g : Nat → Nat) (d2 : Nat → ClassId) (μ : FS) (A : Nat → Prop) (H0 H : Heap) (locs : List Loc) : Prop := va_P D vwCl (la_w R h d σ g d2 μ) H ∧ va_D A (la_w R h d σ g d2 μ) ∧ va_S A H0 H locs
def la_X (p : Program) (m : MethodId) (c : Code) (s : State) (args : Array Value) (D : va_G) (d d2 : Nat → ClassId) (A : Nat → Prop) (b L : Nat) (xs : Nat → Int32) : Prop :=
  CallFix p m c code 4 s args lw_all RX0 ∧ va_K D vwCl (ob_t d 1 fsKs) s ∧ va_K D vwCl (ob_t d2 1 mdKs) s ∧ (∀ q, s.heap.size ≤ q → A q) ∧ ¬ A b ∧ va_X b L xs s s.heap ∧ b < s.heap.size ∧ L ≤ 257
section LA
variable {p : Program} {l : Launch} {e : Env} {s : State} {m : MethodId} {args : Array Value} {below : List Frame} {meth : Method} {c : Code} {H : Heap} {locs : List Loc} {Q : State → Prop}
variable {pc : Nat} {ls : Array Slot} {rest : List Value} {D : va_G} {h g : Nat → Nat} {d d2 : Nat → ClassId} {σ μ : FS} {A : Nat → Prop} {R b L : Nat} {xs : Nat → Int32}
theorem la_ld (hX : la_X p m c s args D d d2 A b L xs) (hI : la_I D R h d σ g d2 μ A s.heap H locs) (a : Nat) (ha : a < L) (hdg : decode code pc = .ok (.iaload, 1))
    (kk : W p l e room_1 s m args below meth c H locs 18 315 Q (F0 m (pc + 1) ls (.int (xs a) :: rest))) : W p l e room_1 s m args below meth c H locs 18 315 Q (F0 m pc ls (.int (nI a) :: .ref b :: rest)) := by
  obtain ⟨hF, -, -, -, hbA, hs, hbl, hL⟩ := hX
  refine va_sld hF.1 hF.2.1 hs hbl hbA hI.2.2 (vp_in_nI ha (by omega)) hdg ?_
  rw [nI_clamp (by omega)]
  exact kk
theorem la_fs {y : MethodName} {bytes : ByteArray} {maxL n idx : Nat} {ret : Option FieldType} {rm : Room} {As : List Value} {post : Int32 → FS → Prop} {stk : List Value} (hX : la_X p m c s args D d d2 A b L xs) (hI : la_I D R h d σ g d2 μ A s.heap H locs)
    (hM : ob_Mi l y bytes maxL ret rm D 0 [.int (nI R)] fsKs h d σ As post) (cw : CallW room_1 s args RX0 RX1 idx y bytes maxL ret (ws_ y bytes maxL ret) rm 0 0 n) (hn : As.length = n) (hs : ls.size = 4) (hr : (rest.map fun v => v.category).sum ≤ 8) (hstk : stk = As.reverse ++ .ref (h 0) :: rest) (hdg : decode code pc = .ok (.invokevirtual idx, 3))
    (kk : ∀ (v : Int32) (u : FS) (H1 : Heap) (locs1 : List Loc), post v u → la_I D R h d u g d2 μ A s.heap H1 locs1 → W p l e room_1 s m args below meth c H1 locs1 18 315 Q (F0 m (pc + 3) ls (.int v :: rest))) : W p l e room_1 s m args below meth c H locs 18 315 Q (F0 m pc ls stk) := by
  obtain ⟨hP, hD, hS⟩ := hI
  have hPc : va_P D vwCl (ob_w 0 [.int (nI R)] fsKs h d σ) H := hP.sub [0, 1, 2, 3, 4, 5, 6, 7, 8, 9, 10, 11, 12] rfl
  have hDc : va_D A (ob_w 0 [.int (nI R)] fsKs h d σ) := hD.sub [0, 1, 2, 3, 4, 5, 6, 7, 8, 9, 10, 11, 12] (by decide) rfl
  have hFc := va_free (wc := (ob_w 0 [.int (nI R)] fsKs h d σ)) hD hS hX.2.2.2.1 [0, 1, 2, 3, 4, 5, 6, 7, 8, 9, 10, 11, 12] rfl
  refine va_calli (va_runV (As := As) (rest := rest) hX.1 (hM H.size) cw ⟨ob_blind, va_recv hX.2.1 hPc (ci := 0) (q0 := 0) rfl rfl, fun U hU hW => ⟨rfl, by rw [hU], by rw [hU]; exact hPc, va_K.moved hW.alike hX.2.1, hDc.weaken (fun _ _ _ _ => trivial)⟩⟩ rfl hn hs hstk (lv_room hr) hdg ⟨by decide, by decide⟩) hS (fun q _ hq => hFc q hq) hFc (fun v u t H1 locs1 ht hvm hw hB hz hk hS1 => ?_)
  obtain ⟨hP1, hK1, hD1⟩ := hB
  rw [ht] at hP1
  obtain ⟨hP2, hD2⟩ := va_join (wr := (ob_w 1 [] mdKs g d2 μ)) (w1 := (ob_w 0 [.int (nI R)] fsKs h d u)) hP hD [0, 1, 2, 3, 4, 5, 6, 7, 8, 9, 10, 11, 12] [13, 14, 15, 16, 17] rfl rfl (by decide) (by decide) hk hFc hP1 hD1
  exact kk v u H1 locs1 hw ⟨hP2.sub [5, 6, 7, 8, 9, 10, 11, 12, 13, 14, 15, 16, 17, 0, 1, 2, 3, 4] rfl, hD2.sub [5, 6, 7, 8, 9, 10, 11, 12, 13, 14, 15, 16, 17, 0, 1, 2, 3, 4] (by decide) rfl, hS1⟩
theorem la_md {y : MethodName} {bytes : ByteArray} {maxL n idx : Nat} {ret : Option FieldType} {rm : Room} {As : List Value} {post : Int32 → FS → Prop} {stk : List Value} (hX : la_X p m c s args D d d2 A b L xs) (hI : la_I D R h d σ g d2 μ A s.heap H locs)
    (hM : ob_Mi l y bytes maxL ret rm D 1 [] mdKs g d2 μ As post) (cw : CallW room_1 s args RX0 RX2 idx y bytes maxL ret (ws_ y bytes maxL ret) rm 0 0 n) (hn : As.length = n) (hs : ls.size = 4) (hr : (rest.map fun v => v.category).sum ≤ 8) (hstk : stk = As.reverse ++ .ref (g 0) :: rest) (hdg : decode code pc = .ok (.invokevirtual idx, 3))
    (kk : ∀ (v : Int32) (u : FS) (H1 : Heap) (locs1 : List Loc), post v u → la_I D R h d σ g d2 u A s.heap H1 locs1 → W p l e room_1 s m args below meth c H1 locs1 18 315 Q (F0 m (pc + 3) ls (.int v :: rest))) : W p l e room_1 s m args below meth c H locs 18 315 Q (F0 m pc ls stk) := by
  obtain ⟨hP, hD, hS⟩ := hI
  have hPc : va_P D vwCl (ob_w 1 [] mdKs g d2 μ) H := hP.sub [13, 14, 15, 16, 17] rfl
  have hDc : va_D A (ob_w 1 [] mdKs g d2 μ) := hD.sub [13, 14, 15, 16, 17] (by decide) rfl
  have hFc := va_free (wc := (ob_w 1 [] mdKs g d2 μ)) hD hS hX.2.2.2.1 [13, 14, 15, 16, 17] rfl
  refine va_calli (va_runV (As := As) (rest := rest) hX.1 (hM H.size) cw ⟨ob_blind, va_recv hX.2.2.1 hPc (ci := 1) (q0 := 0) rfl rfl, fun U hU hW => ⟨rfl, by rw [hU], by rw [hU]; exact hPc, va_K.moved hW.alike hX.2.2.1, hDc.weaken (fun _ _ _ _ => trivial)⟩⟩ rfl hn hs hstk (lv_room hr) hdg ⟨by decide, by decide⟩) hS (fun q _ hq => hFc q hq) hFc (fun v u t H1 locs1 ht hvm hw hB hz hk hS1 => ?_)
  obtain ⟨hP1, hK1, hD1⟩ := hB
  rw [ht] at hP1
  obtain ⟨hP2, hD2⟩ := va_join (wr := (ob_w 0 [.int (nI R)] fsKs h d σ)) (w1 := (ob_w 1 [] mdKs g d2 u)) hP hD [13, 14, 15, 16, 17] [0, 1, 2, 3, 4, 5, 6, 7, 8, 9, 10, 11, 12] rfl rfl (by decide) (by decide) hk hFc hP1 hD1
  exact kk v u H1 locs1 hw ⟨hP2.sub [0, 1, 2, 3, 4, 5, 6, 7, 8, 9, 10, 11, 12, 13, 14, 15, 16, 17] rfl, hD2.sub [0, 1, 2, 3, 4, 5, 6, 7, 8, 9, 10, 11, 12, 13, 14, 15, 16, 17] (by decide) rfl, hS1⟩
end LA
theorem cwLX1_read {s : State} {args : Array Value} (hts : ∀ w ∈ lw_all, w.before args s = true) : CallW room_1 s args RX0 RX1 21 yX1_read cX1_read 3 (some .int) (ws_ yX1_read cX1_read 3 (some .int)) rmX1_read 0 0 2 :=
  cwV 2 hts (lw_V q80 q81 q82 q28 q83) rfl rfl rfl (by decide +kernel) ⟨by decide, by decide⟩
theorem cwLX1_write {s : State} {args : Array Value} (hts : ∀ w ∈ lw_all, w.before args s = true) : CallW room_1 s args RX0 RX1 26 yX1_write cX1_write 4 (some .int) (ws_ yX1_write cX1_write 4 (some .int)) rmX1_write 0 0 3 :=
  cwV 3 hts (lw_V q162 q163 q164 q28 q165) rfl rfl rfl (by decide +kernel) ⟨by decide, by decide⟩
theorem cwLX1_swap {s : State} {args : Array Value} (hts : ∀ w ∈ lw_all, w.before args s = true) : CallW room_1 s args RX0 RX1 31 yX1_swap cX1_swap 6 (some .int) (ws_ yX1_swap cX1_swap 6 (some .int)) rmX1_swap 0 0 3 :=
  cwV 3 hts (lw_V q170 q171 q172 q28 q173) rfl rfl rfl (by decide +kernel) ⟨by decide, by decide⟩
theorem cwLX1_sync {s : State} {args : Array Value} (hts : ∀ w ∈ lw_all, w.before args s = true) : CallW room_1 s args RX0 RX1 35 yX1_sync cX1_sync 2 (some .int) (ws_ yX1_sync cX1_sync 2 (some .int)) rmX1_sync 0 0 1 :=
  cwV 1 hts (lw_V q174 q175 q176 q28 q177) rfl rfl rfl (by decide +kernel) ⟨by decide, by decide⟩
theorem cwLX1_crash {s : State} {args : Array Value} (hts : ∀ w ∈ lw_all, w.before args s = true) : CallW room_1 s args RX0 RX1 40 yX1_crash cX1_crash 3 (some .int) (ws_ yX1_crash cX1_crash 3 (some .int)) rmX1_crash 0 0 1 :=
  cwV 1 hts (lw_V q178 q179 q180 q28 q181) rfl rfl rfl (by decide +kernel) ⟨by decide, by decide⟩
theorem cwLX1_crashInSync {s : State} {args : Array Value} (hts : ∀ w ∈ lw_all, w.before args s = true) : CallW room_1 s args RX0 RX1 44 yX1_crashInSync cX1_crashInSync 4 (some .int) (ws_ yX1_crashInSync cX1_crashInSync 4 (some .int)) rmX1_crashInSync 0 0 2 :=
  cwV 2 hts (lw_V q190 q191 q192 q28 q193) rfl rfl rfl (by decide +kernel) ⟨by decide, by decide⟩
theorem cwLX1_restart {s : State} {args : Array Value} (hts : ∀ w ∈ lw_all, w.before args s = true) : CallW room_1 s args RX0 RX1 49 yX1_restart cX1_restart 3 (some .int) (ws_ yX1_restart cX1_restart 3 (some .int)) rmX1_restart 0 0 1 :=
  cwV 1 hts (lw_V q194 q195 q196 q28 q197) rfl rfl rfl (by decide +kernel) ⟨by decide, by decide⟩
theorem cwLX1_powerCut {s : State} {args : Array Value} (hts : ∀ w ∈ lw_all, w.before args s = true) : CallW room_1 s args RX0 RX1 53 yX1_powerCut cX1_powerCut 3 (some .int) (ws_ yX1_powerCut cX1_powerCut 3 (some .int)) rmX1_powerCut 0 0 0 :=
  cwV 0 hts (lw_V q198 q199 q200 q28 q201) rfl rfl rfl (by decide +kernel) ⟨by decide, by decide⟩
theorem cwLX1_content {s : State} {args : Array Value} (hts : ∀ w ∈ lw_all, w.before args s = true) : CallW room_1 s args RX0 RX1 58 yX1_content cX1_content 5 (some .int) (ws_ yX1_content cX1_content 5 (some .int)) rmX1_content 0 0 1 :=
  cwV 1 hts (lw_V q202 q203 q204 q28 q205) rfl rfl rfl (by decide +kernel) ⟨by decide, by decide⟩
theorem cwLX1_safe {s : State} {args : Array Value} (hts : ∀ w ∈ lw_all, w.before args s = true) : CallW room_1 s args RX0 RX1 62 yX1_safe cX1_safe 2 (some .int) (ws_ yX1_safe cX1_safe 2 (some .int)) rmX1_safe 0 0 1 :=
  cwV 1 hts (lw_V q210 q211 q212 q28 q213) rfl rfl rfl (by decide +kernel) ⟨by decide, by decide⟩
theorem cwLX1_owner {s : State} {args : Array Value} (hts : ∀ w ∈ lw_all, w.before args s = true) : CallW room_1 s args RX0 RX1 66 yX1_owner cX1_owner 2 (some .int) (ws_ yX1_owner cX1_owner 2 (some .int)) rmX1_owner 0 0 1 :=
  cwV 1 hts (lw_V q214 q215 q216 q28 q217) rfl rfl rfl (by decide +kernel) ⟨by decide, by decide⟩
theorem cwLX1_unsafe {s : State} {args : Array Value} (hts : ∀ w ∈ lw_all, w.before args s = true) : CallW room_1 s args RX0 RX1 70 yX1_unsafe cX1_unsafe 2 (some .int) (ws_ yX1_unsafe cX1_unsafe 2 (some .int)) rmX1_unsafe 0 0 1 :=
  cwV 1 hts (lw_V q218 q219 q220 q28 q221) rfl rfl rfl (by decide +kernel) ⟨by decide, by decide⟩
theorem cwLX1_up {s : State} {args : Array Value} (hts : ∀ w ∈ lw_all, w.before args s = true) : CallW room_1 s args RX0 RX1 74 yX1_up cX1_up 2 (some .boolean) (ws_ yX1_up cX1_up 2 (some .boolean)) rmX1_up 0 0 1 :=
  cwV 1 hts (lw_V q222 q223 q224 q28 q225) rfl rfl rfl (by decide +kernel) ⟨by decide, by decide⟩
theorem cwLX2_read {s : State} {args : Array Value} (hts : ∀ w ∈ lw_all, w.before args s = true) : CallW room_1 s args RX0 RX2 25 yX2_read cX2_read 4 (some .int) (ws_ yX2_read cX2_read 4 (some .int)) rmX2_read 0 0 2 :=
  cwV 2 hts (lw_V q248 q249 q250 q29 q251) rfl rfl rfl (by decide +kernel) ⟨by decide, by decide⟩
theorem cwLX2_write {s : State} {args : Array Value} (hts : ∀ w ∈ lw_all, w.before args s = true) : CallW room_1 s args RX0 RX2 30 yX2_write cX2_write 5 (some .int) (ws_ yX2_write cX2_write 5 (some .int)) rmX2_write 0 0 3 :=
  cwV 3 hts (lw_V q272 q273 q274 q29 q275) rfl rfl rfl (by decide +kernel) ⟨by decide, by decide⟩
theorem cwLX2_swap {s : State} {args : Array Value} (hts : ∀ w ∈ lw_all, w.before args s = true) : CallW room_1 s args RX0 RX2 34 yX2_swap cX2_swap 7 (some .int) (ws_ yX2_swap cX2_swap 7 (some .int)) rmX2_swap 0 0 3 :=
  cwV 3 hts (lw_V q280 q281 q282 q29 q283) rfl rfl rfl (by decide +kernel) ⟨by decide, by decide⟩
theorem cwLX2_sync {s : State} {args : Array Value} (hts : ∀ w ∈ lw_all, w.before args s = true) : CallW room_1 s args RX0 RX2 39 yX2_sync cX2_sync 3 (some .int) (ws_ yX2_sync cX2_sync 3 (some .int)) rmX2_sync 0 0 1 :=
  cwV 1 hts (lw_V q286 q287 q288 q29 q289) rfl rfl rfl (by decide +kernel) ⟨by decide, by decide⟩
theorem cwLX2_crash {s : State} {args : Array Value} (hts : ∀ w ∈ lw_all, w.before args s = true) : CallW room_1 s args RX0 RX2 43 yX2_crash cX2_crash 2 (some .int) (ws_ yX2_crash cX2_crash 2 (some .int)) rmX2_crash 0 0 1 :=
  cwV 1 hts (lw_V q290 q291 q292 q29 q293) rfl rfl rfl (by decide +kernel) ⟨by decide, by decide⟩
theorem cwLX2_crashInSync {s : State} {args : Array Value} (hts : ∀ w ∈ lw_all, w.before args s = true) : CallW room_1 s args RX0 RX2 48 yX2_crashInSync cX2_crashInSync 4 (some .int) (ws_ yX2_crashInSync cX2_crashInSync 4 (some .int)) rmX2_crashInSync 0 0 2 :=
  cwV 2 hts (lw_V q298 q295 q296 q29 q297) rfl rfl rfl (by decide +kernel) ⟨by decide, by decide⟩
theorem cwLX2_restart {s : State} {args : Array Value} (hts : ∀ w ∈ lw_all, w.before args s = true) : CallW room_1 s args RX0 RX2 52 yX2_restart cX2_restart 3 (some .int) (ws_ yX2_restart cX2_restart 3 (some .int)) rmX2_restart 0 0 1 :=
  cwV 1 hts (lw_V q299 q300 q301 q29 q302) rfl rfl rfl (by decide +kernel) ⟨by decide, by decide⟩
theorem cwLX2_powerCut {s : State} {args : Array Value} (hts : ∀ w ∈ lw_all, w.before args s = true) : CallW room_1 s args RX0 RX2 57 yX2_powerCut cX2_powerCut 3 (some .int) (ws_ yX2_powerCut cX2_powerCut 3 (some .int)) rmX2_powerCut 0 0 0 :=
  cwV 0 hts (lw_V q303 q304 q305 q29 q306) rfl rfl rfl (by decide +kernel) ⟨by decide, by decide⟩
theorem cwLX2_content {s : State} {args : Array Value} (hts : ∀ w ∈ lw_all, w.before args s = true) : CallW room_1 s args RX0 RX2 61 yX2_content cX2_content 2 (some .int) (ws_ yX2_content cX2_content 2 (some .int)) rmX2_content 0 0 1 :=
  cwV 1 hts (lw_V q307 q308 q309 q29 q310) rfl rfl rfl (by decide +kernel) ⟨by decide, by decide⟩
theorem cwLX2_safe {s : State} {args : Array Value} (hts : ∀ w ∈ lw_all, w.before args s = true) : CallW room_1 s args RX0 RX2 65 yX2_safe cX2_safe 2 (some .int) (ws_ yX2_safe cX2_safe 2 (some .int)) rmX2_safe 0 0 1 :=
  cwV 1 hts (lw_V q311 q312 q313 q29 q314) rfl rfl rfl (by decide +kernel) ⟨by decide, by decide⟩
theorem cwLX2_owner {s : State} {args : Array Value} (hts : ∀ w ∈ lw_all, w.before args s = true) : CallW room_1 s args RX0 RX2 69 yX2_owner cX2_owner 2 (some .int) (ws_ yX2_owner cX2_owner 2 (some .int)) rmX2_owner 0 0 1 :=
  cwV 1 hts (lw_V q315 q316 q317 q29 q318) rfl rfl rfl (by decide +kernel) ⟨by decide, by decide⟩
theorem cwLX2_unsafe {s : State} {args : Array Value} (hts : ∀ w ∈ lw_all, w.before args s = true) : CallW room_1 s args RX0 RX2 73 yX2_unsafe cX2_unsafe 4 (some .int) (ws_ yX2_unsafe cX2_unsafe 4 (some .int)) rmX2_unsafe 0 0 1 :=
  cwV 1 hts (lw_V q319 q277 q278 q29 q279) rfl rfl rfl (by decide +kernel) ⟨by decide, by decide⟩
theorem cwLX2_up {s : State} {args : Array Value} (hts : ∀ w ∈ lw_all, w.before args s = true) : CallW room_1 s args RX0 RX2 78 yX2_up cX2_up 2 (some .boolean) (ws_ yX2_up cX2_up 2 (some .boolean)) rmX2_up 0 0 1 :=
  cwV 1 hts (lw_V q320 q321 q322 q29 q323) rfl rfl rfl (by decide +kernel) ⟨by decide, by decide⟩
/-- cell(script, 0): an int -/
theorem M_cell (l : Launch) (b L : Nat) (xs : Nat → Int32) (hL : L ≤ 257) : Met l yX0_cell (ws_ yX0_cell cX0_cell 2 (some .int)) { frames := 0, cells := 0, slots := 0, locals := 0 } (va_Pc [.ref b, .int (nI 0)] (fun U => va_X b L xs U U.heap)) (vp_Si (fun _ => True)) 0 0 (fun _ => False) := by
  refine Met.ofW (cc := cX0_cell) (maxL := 2) (ret := some .int) (by decide) rfl ?_
  intro p e s m args below meth c s₁ B hml hv
  obtain ⟨rfl, hX⟩ := hv
  have hx := B.exec
  have hb := B.bytes
  have hr := B.returns
  have hlocks := B.notSynchronized
  have hbl : b < s.heap.size := by
    obtain ⟨scr, h1, -⟩ := hX
    exact (Array.getElem?_eq_some_iff.mp h1).1
  have hS : va_S (fun _ => False) s.heap s.heap [] := va_S.rf
  have hl := lv_entry ([.ref b, .int (nI 0)]) (n := 2) (Nat.le_of_ble_eq_true rfl)
  rw [lg_entry_eq]
  generalize (lg_sl ([.ref b, .int (nI 0)]) ++ List.replicate (2 - (lg_sl ([.ref b, .int (nI 0)])).length) Slot.unset).toArray = ls at hl ⊢
  have hl : lv_has ls 2 [(0, .ref b), (1, .int (nI 0))] := hl
  refine lv_iload_n hx hb dX0_cell_0 rfl (lv_at hl 1 rfl) ?_
  refine lv_aload_n hx hb dX0_cell_1 rfl (lv_at hl 0 rfl) ?_
  refine va_slen hx hb hX hbl (fun z => z) hS dX0_cell_2 ?_
  refine n_icmp_ge (b := L) (tgt := 12) hx hb dX0_cell_3 (by decide) (by omega) (by omega) (fun q => ?_) (fun q => ?_)
  · refine lv_iconst (v := 0) hx hb dX0_cell_12 (by decide) ?_
    exact W.iret (v := 0) hx hb hr (fun t ht hW => ⟨0, rfl, trivial, ht⟩) (fun q hq => by cases hq) dX0_cell_13
  · refine lv_aload_n hx hb dX0_cell_6 rfl (lv_at hl 0 rfl) ?_
    refine lv_iload_n hx hb dX0_cell_7 rfl (lv_at hl 1 rfl) ?_
    refine va_sld hx hb hX hbl (fun z => z) hS (vp_in_nI q (by omega)) dX0_cell_8 ?_
    refine lv_goto (tgt := 13) hx hb dX0_cell_9 (by decide) ?_
    exact W.iret hx hb hr (fun t ht hW => ⟨_, rfl, trivial, ht⟩) (fun q hq => by cases hq) dX0_cell_13
end
section
/-! THE LAW: one theorem a case of its switch -/
set_option maxRecDepth 100000
set_option maxHeartbeats 4000000 in
theorem la_c0 {p : Program} {l : Launch} {e : Env} {s : State} {m : MethodId} {args : Array Value} {below : List Frame} {meth : Method} {c : Code} {H : Heap} {locs : List Loc} {Q : State → Prop} {ls : Array Slot} {D : va_G} {h g : Nat → Nat} {d d2 : Nat → ClassId} {σ μ : FS} {A : Nat → Prop} {R b L i : Nat} {xs : Nat → Int32} (hX : la_X p m c s args D d d2 A b L xs) (hI : la_I D R h d σ g d2 μ A s.heap H locs) (hi : i + 4 ≤ L) (hSy : Sy R σ μ) (hl : lv_has ls 4 [(3, .int (nI i)), (2, .ref (g 0)), (1, .ref (h 0)), (0, .ref b)]) (next : ∀ (σ1 μ1 : FS) (H1 : Heap) (locs1 : List Loc), Sy R σ1 μ1 → la_I D R h d σ1 g d2 μ1 A s.heap H1 locs1 → W p l e room_1 s m args below meth c H1 locs1 18 315 Q (F0 m 473 ls [])) : W p l e room_1 s m args below meth c H locs 18 315 Q (F0 m 108 ls []) := by
  have hx := hX.1.1
  have hb := hX.1.2.1
  have hts := hX.1.2.2.2.2
  have hL7 := hX.2.2.2.2.2.2.2
  obtain ⟨U, K, hV, hL1, hN⟩ := hSy
  refine lv_aload_n hx hb dL_law_108 rfl (lv_at hl 2 rfl) ?_
  refine lv_aload_n hx hb dL_law_109 rfl (lv_at hl 3 rfl) ?_
  refine lv_iload_n hx hb dL_law_110 rfl (lv_at hl 0 rfl) ?_
  refine lv_iconst (v := nI 1) hx hb dL_law_111 (by decide) ?_
  refine n_iadd hx hb dL_law_112 ?_
  refine la_ld hX hI (i + 1) (by omega) dL_law_113 ?_
  refine lv_aload_n hx hb dL_law_114 rfl (lv_at hl 3 rfl) ?_
  refine lv_iload_n hx hb dL_law_115 rfl (lv_at hl 0 rfl) ?_
  refine lv_iconst (v := nI 2) hx hb dL_law_116 (by decide) ?_
  refine n_iadd hx hb dL_law_117 ?_
  refine la_ld hX hI (i + 2) (by omega) dL_law_118 ?_
  refine la_fs hX hI (M_read l D h d R (xs (i + 1)) (xs (i + 2)) σ U K hV) (cwLX1_read hts) rfl hl.1 (rest := []) (by simp [Value.category]) rfl dL_law_119 (fun v σ1 H locs p1 hI => ?_)
  refine lv_aload_n hx hb dL_law_122 rfl (lv_at hl 1 rfl) ?_
  refine lv_aload_n hx hb dL_law_123 rfl (lv_at hl 3 rfl) ?_
  refine lv_iload_n hx hb dL_law_124 rfl (lv_at hl 0 rfl) ?_
  refine lv_iconst (v := nI 1) hx hb dL_law_125 (by decide) ?_
  refine n_iadd hx hb dL_law_126 ?_
  refine la_ld hX hI (i + 1) (by omega) dL_law_127 ?_
  refine lv_aload_n hx hb dL_law_128 rfl (lv_at hl 3 rfl) ?_
  refine lv_iload_n hx hb dL_law_129 rfl (lv_at hl 0 rfl) ?_
  refine lv_iconst (v := nI 2) hx hb dL_law_130 (by decide) ?_
  refine n_iadd hx hb dL_law_131 ?_
  refine la_ld hX hI (i + 2) (by omega) dL_law_132 ?_
  refine la_md hX hI (M2_read l D g d2 (xs (i + 1)) (xs (i + 2)) μ) (cwLX2_read hts) rfl hl.1 (rest := [.int v]) (by simp [Value.category]) rfl dL_law_133 (fun w μ1 H locs p2 hI => ?_)
  obtain ⟨e1, hSy⟩ := sim_read hV hL1 hN p1 p2
  exact lv_icmp_eq (tgt := 473) hx hb dL_law_136 (by decide) (fun _ => next _ _ _ _ hSy hI) (fun z => absurd e1 z)
set_option maxHeartbeats 4000000 in
theorem la_c1 {p : Program} {l : Launch} {e : Env} {s : State} {m : MethodId} {args : Array Value} {below : List Frame} {meth : Method} {c : Code} {H : Heap} {locs : List Loc} {Q : State → Prop} {ls : Array Slot} {D : va_G} {h g : Nat → Nat} {d d2 : Nat → ClassId} {σ μ : FS} {A : Nat → Prop} {R b L i : Nat} {xs : Nat → Int32} (hX : la_X p m c s args D d d2 A b L xs) (hI : la_I D R h d σ g d2 μ A s.heap H locs) (hi : i + 4 ≤ L) (hSy : Sy R σ μ) (hl : lv_has ls 4 [(3, .int (nI i)), (2, .ref (g 0)), (1, .ref (h 0)), (0, .ref b)]) (next : ∀ (σ1 μ1 : FS) (H1 : Heap) (locs1 : List Loc), Sy R σ1 μ1 → la_I D R h d σ1 g d2 μ1 A s.heap H1 locs1 → W p l e room_1 s m args below meth c H1 locs1 18 315 Q (F0 m 473 ls [])) : W p l e room_1 s m args below meth c H locs 18 315 Q (F0 m 141 ls []) := by
  have hx := hX.1.1
  have hb := hX.1.2.1
  have hts := hX.1.2.2.2.2
  have hL7 := hX.2.2.2.2.2.2.2
  obtain ⟨U, K, hV, hL1, hN⟩ := hSy
  refine lv_aload_n hx hb dL_law_141 rfl (lv_at hl 2 rfl) ?_
  refine lv_aload_n hx hb dL_law_142 rfl (lv_at hl 3 rfl) ?_
  refine lv_iload_n hx hb dL_law_143 rfl (lv_at hl 0 rfl) ?_
  refine lv_iconst (v := nI 1) hx hb dL_law_144 (by decide) ?_
  refine n_iadd hx hb dL_law_145 ?_
  refine la_ld hX hI (i + 1) (by omega) dL_law_146 ?_
  refine lv_aload_n hx hb dL_law_147 rfl (lv_at hl 3 rfl) ?_
  refine lv_iload_n hx hb dL_law_148 rfl (lv_at hl 0 rfl) ?_
  refine lv_iconst (v := nI 2) hx hb dL_law_149 (by decide) ?_
  refine n_iadd hx hb dL_law_150 ?_
  refine la_ld hX hI (i + 2) (by omega) dL_law_151 ?_
  refine lv_aload_n hx hb dL_law_152 rfl (lv_at hl 3 rfl) ?_
  refine lv_iload_n hx hb dL_law_153 rfl (lv_at hl 0 rfl) ?_
  refine lv_iconst (v := nI 3) hx hb dL_law_154 (by decide) ?_
  refine n_iadd hx hb dL_law_155 ?_
  refine la_ld hX hI (i + 3) (by omega) dL_law_156 ?_
  refine la_fs hX hI (M_write l D h d R (xs (i + 1)) (xs (i + 2)) (xs (i + 3)) σ U K hV) (cwLX1_write hts) rfl hl.1 (rest := []) (by simp [Value.category]) rfl dL_law_157 (fun v σ1 H locs p1 hI => ?_)
  refine lv_aload_n hx hb dL_law_160 rfl (lv_at hl 1 rfl) ?_
  refine lv_aload_n hx hb dL_law_161 rfl (lv_at hl 3 rfl) ?_
  refine lv_iload_n hx hb dL_law_162 rfl (lv_at hl 0 rfl) ?_
  refine lv_iconst (v := nI 1) hx hb dL_law_163 (by decide) ?_
  refine n_iadd hx hb dL_law_164 ?_
  refine la_ld hX hI (i + 1) (by omega) dL_law_165 ?_
  refine lv_aload_n hx hb dL_law_166 rfl (lv_at hl 3 rfl) ?_
  refine lv_iload_n hx hb dL_law_167 rfl (lv_at hl 0 rfl) ?_
  refine lv_iconst (v := nI 2) hx hb dL_law_168 (by decide) ?_
  refine n_iadd hx hb dL_law_169 ?_
  refine la_ld hX hI (i + 2) (by omega) dL_law_170 ?_
  refine lv_aload_n hx hb dL_law_171 rfl (lv_at hl 3 rfl) ?_
  refine lv_iload_n hx hb dL_law_172 rfl (lv_at hl 0 rfl) ?_
  refine lv_iconst (v := nI 3) hx hb dL_law_173 (by decide) ?_
  refine n_iadd hx hb dL_law_174 ?_
  refine la_ld hX hI (i + 3) (by omega) dL_law_175 ?_
  refine la_md hX hI (M2_write l D g d2 (xs (i + 1)) (xs (i + 2)) (xs (i + 3)) μ) (cwLX2_write hts) rfl hl.1 (rest := [.int v]) (by simp [Value.category]) rfl dL_law_176 (fun w μ1 H locs p2 hI => ?_)
  obtain ⟨e1, hSy⟩ := sim_writ hV hL1 hN p1 p2
  exact lv_icmp_eq (tgt := 473) hx hb dL_law_179 (by decide) (fun _ => next _ _ _ _ hSy hI) (fun z => absurd e1 z)
set_option maxHeartbeats 4000000 in
theorem la_c2 {p : Program} {l : Launch} {e : Env} {s : State} {m : MethodId} {args : Array Value} {below : List Frame} {meth : Method} {c : Code} {H : Heap} {locs : List Loc} {Q : State → Prop} {ls : Array Slot} {D : va_G} {h g : Nat → Nat} {d d2 : Nat → ClassId} {σ μ : FS} {A : Nat → Prop} {R b L i : Nat} {xs : Nat → Int32} (hX : la_X p m c s args D d d2 A b L xs) (hI : la_I D R h d σ g d2 μ A s.heap H locs) (hi : i + 4 ≤ L) (hSy : Sy R σ μ) (hl : lv_has ls 4 [(3, .int (nI i)), (2, .ref (g 0)), (1, .ref (h 0)), (0, .ref b)]) (next : ∀ (σ1 μ1 : FS) (H1 : Heap) (locs1 : List Loc), Sy R σ1 μ1 → la_I D R h d σ1 g d2 μ1 A s.heap H1 locs1 → W p l e room_1 s m args below meth c H1 locs1 18 315 Q (F0 m 473 ls [])) : W p l e room_1 s m args below meth c H locs 18 315 Q (F0 m 184 ls []) := by
  have hx := hX.1.1
  have hb := hX.1.2.1
  have hts := hX.1.2.2.2.2
  have hL7 := hX.2.2.2.2.2.2.2
  obtain ⟨U, K, hV, hL1, hN⟩ := hSy
  refine lv_aload_n hx hb dL_law_184 rfl (lv_at hl 2 rfl) ?_
  refine lv_aload_n hx hb dL_law_185 rfl (lv_at hl 3 rfl) ?_
  refine lv_iload_n hx hb dL_law_186 rfl (lv_at hl 0 rfl) ?_
  refine lv_iconst (v := nI 1) hx hb dL_law_187 (by decide) ?_
  refine n_iadd hx hb dL_law_188 ?_
  refine la_ld hX hI (i + 1) (by omega) dL_law_189 ?_
  refine lv_aload_n hx hb dL_law_190 rfl (lv_at hl 3 rfl) ?_
  refine lv_iload_n hx hb dL_law_191 rfl (lv_at hl 0 rfl) ?_
  refine lv_iconst (v := nI 2) hx hb dL_law_192 (by decide) ?_
  refine n_iadd hx hb dL_law_193 ?_
  refine la_ld hX hI (i + 2) (by omega) dL_law_194 ?_
  refine lv_aload_n hx hb dL_law_195 rfl (lv_at hl 3 rfl) ?_
  refine lv_iload_n hx hb dL_law_196 rfl (lv_at hl 0 rfl) ?_
  refine lv_iconst (v := nI 3) hx hb dL_law_197 (by decide) ?_
  refine n_iadd hx hb dL_law_198 ?_
  refine la_ld hX hI (i + 3) (by omega) dL_law_199 ?_
  refine la_fs hX hI (M_swap l D h d R (xs (i + 1)) (xs (i + 2)) (xs (i + 3)) σ U K hV) (cwLX1_swap hts) rfl hl.1 (rest := []) (by simp [Value.category]) rfl dL_law_200 (fun v σ1 H locs p1 hI => ?_)
  refine lv_aload_n hx hb dL_law_203 rfl (lv_at hl 1 rfl) ?_
  refine lv_aload_n hx hb dL_law_204 rfl (lv_at hl 3 rfl) ?_
  refine lv_iload_n hx hb dL_law_205 rfl (lv_at hl 0 rfl) ?_
  refine lv_iconst (v := nI 1) hx hb dL_law_206 (by decide) ?_
  refine n_iadd hx hb dL_law_207 ?_
  refine la_ld hX hI (i + 1) (by omega) dL_law_208 ?_
  refine lv_aload_n hx hb dL_law_209 rfl (lv_at hl 3 rfl) ?_
  refine lv_iload_n hx hb dL_law_210 rfl (lv_at hl 0 rfl) ?_
  refine lv_iconst (v := nI 2) hx hb dL_law_211 (by decide) ?_
  refine n_iadd hx hb dL_law_212 ?_
  refine la_ld hX hI (i + 2) (by omega) dL_law_213 ?_
  refine lv_aload_n hx hb dL_law_214 rfl (lv_at hl 3 rfl) ?_
  refine lv_iload_n hx hb dL_law_215 rfl (lv_at hl 0 rfl) ?_
  refine lv_iconst (v := nI 3) hx hb dL_law_216 (by decide) ?_
  refine n_iadd hx hb dL_law_217 ?_
  refine la_ld hX hI (i + 3) (by omega) dL_law_218 ?_
  refine la_md hX hI (M2_swap l D g d2 (xs (i + 1)) (xs (i + 2)) (xs (i + 3)) μ) (cwLX2_swap hts) rfl hl.1 (rest := [.int v]) (by simp [Value.category]) rfl dL_law_219 (fun w μ1 H locs p2 hI => ?_)
  obtain ⟨e1, hSy⟩ := sim_swap hV hL1 hN p1 p2
  exact lv_icmp_eq (tgt := 473) hx hb dL_law_222 (by decide) (fun _ => next _ _ _ _ hSy hI) (fun z => absurd e1 z)
set_option maxHeartbeats 4000000 in
theorem la_c3 {p : Program} {l : Launch} {e : Env} {s : State} {m : MethodId} {args : Array Value} {below : List Frame} {meth : Method} {c : Code} {H : Heap} {locs : List Loc} {Q : State → Prop} {ls : Array Slot} {D : va_G} {h g : Nat → Nat} {d d2 : Nat → ClassId} {σ μ : FS} {A : Nat → Prop} {R b L i : Nat} {xs : Nat → Int32} (hX : la_X p m c s args D d d2 A b L xs) (hI : la_I D R h d σ g d2 μ A s.heap H locs) (hi : i + 4 ≤ L) (hSy : Sy R σ μ) (hl : lv_has ls 4 [(3, .int (nI i)), (2, .ref (g 0)), (1, .ref (h 0)), (0, .ref b)]) (next : ∀ (σ1 μ1 : FS) (H1 : Heap) (locs1 : List Loc), Sy R σ1 μ1 → la_I D R h d σ1 g d2 μ1 A s.heap H1 locs1 → W p l e room_1 s m args below meth c H1 locs1 18 315 Q (F0 m 473 ls [])) : W p l e room_1 s m args below meth c H locs 18 315 Q (F0 m 227 ls []) := by
  have hx := hX.1.1
  have hb := hX.1.2.1
  have hts := hX.1.2.2.2.2
  have hL7 := hX.2.2.2.2.2.2.2
  obtain ⟨U, K, hV, hL1, hN⟩ := hSy
  refine lv_aload_n hx hb dL_law_227 rfl (lv_at hl 2 rfl) ?_
  refine lv_aload_n hx hb dL_law_228 rfl (lv_at hl 3 rfl) ?_
  refine lv_iload_n hx hb dL_law_229 rfl (lv_at hl 0 rfl) ?_
  refine lv_iconst (v := nI 1) hx hb dL_law_230 (by decide) ?_
  refine n_iadd hx hb dL_law_231 ?_
  refine la_ld hX hI (i + 1) (by omega) dL_law_232 ?_
  refine la_fs hX hI (M_sync l D h d R (xs (i + 1)) σ U K hV) (cwLX1_sync hts) rfl hl.1 (rest := []) (by simp [Value.category]) rfl dL_law_233 (fun v σ1 H locs p1 hI => ?_)
  refine lv_aload_n hx hb dL_law_236 rfl (lv_at hl 1 rfl) ?_
  refine lv_aload_n hx hb dL_law_237 rfl (lv_at hl 3 rfl) ?_
  refine lv_iload_n hx hb dL_law_238 rfl (lv_at hl 0 rfl) ?_
  refine lv_iconst (v := nI 1) hx hb dL_law_239 (by decide) ?_
  refine n_iadd hx hb dL_law_240 ?_
  refine la_ld hX hI (i + 1) (by omega) dL_law_241 ?_
  refine la_md hX hI (M2_sync l D g d2 (xs (i + 1)) μ) (cwLX2_sync hts) rfl hl.1 (rest := [.int v]) (by simp [Value.category]) rfl dL_law_242 (fun w μ1 H locs p2 hI => ?_)
  obtain ⟨e1, hSy⟩ := sim_sync hV hL1 hN p1 p2
  exact lv_icmp_eq (tgt := 473) hx hb dL_law_245 (by decide) (fun _ => next _ _ _ _ hSy hI) (fun z => absurd e1 z)
set_option maxHeartbeats 4000000 in
theorem la_c4 {p : Program} {l : Launch} {e : Env} {s : State} {m : MethodId} {args : Array Value} {below : List Frame} {meth : Method} {c : Code} {H : Heap} {locs : List Loc} {Q : State → Prop} {ls : Array Slot} {D : va_G} {h g : Nat → Nat} {d d2 : Nat → ClassId} {σ μ : FS} {A : Nat → Prop} {R b L i : Nat} {xs : Nat → Int32} (hX : la_X p m c s args D d d2 A b L xs) (hI : la_I D R h d σ g d2 μ A s.heap H locs) (hi : i + 4 ≤ L) (hSy : Sy R σ μ) (hl : lv_has ls 4 [(3, .int (nI i)), (2, .ref (g 0)), (1, .ref (h 0)), (0, .ref b)]) (next : ∀ (σ1 μ1 : FS) (H1 : Heap) (locs1 : List Loc), Sy R σ1 μ1 → la_I D R h d σ1 g d2 μ1 A s.heap H1 locs1 → W p l e room_1 s m args below meth c H1 locs1 18 315 Q (F0 m 473 ls [])) : W p l e room_1 s m args below meth c H locs 18 315 Q (F0 m 250 ls []) := by
  have hx := hX.1.1
  have hb := hX.1.2.1
  have hts := hX.1.2.2.2.2
  have hL7 := hX.2.2.2.2.2.2.2
  obtain ⟨U, K, hV, hL1, hN⟩ := hSy
  refine lv_aload_n hx hb dL_law_250 rfl (lv_at hl 2 rfl) ?_
  refine lv_aload_n hx hb dL_law_251 rfl (lv_at hl 3 rfl) ?_
  refine lv_iload_n hx hb dL_law_252 rfl (lv_at hl 0 rfl) ?_
  refine lv_iconst (v := nI 1) hx hb dL_law_253 (by decide) ?_
  refine n_iadd hx hb dL_law_254 ?_
  refine la_ld hX hI (i + 1) (by omega) dL_law_255 ?_
  refine la_fs hX hI (M_crash l D h d R (xs (i + 1)) σ U K hV) (cwLX1_crash hts) rfl hl.1 (rest := []) (by simp [Value.category]) rfl dL_law_256 (fun v σ1 H locs p1 hI => ?_)
  refine lv_aload_n hx hb dL_law_259 rfl (lv_at hl 1 rfl) ?_
  refine lv_aload_n hx hb dL_law_260 rfl (lv_at hl 3 rfl) ?_
  refine lv_iload_n hx hb dL_law_261 rfl (lv_at hl 0 rfl) ?_
  refine lv_iconst (v := nI 1) hx hb dL_law_262 (by decide) ?_
  refine n_iadd hx hb dL_law_263 ?_
  refine la_ld hX hI (i + 1) (by omega) dL_law_264 ?_
  refine la_md hX hI (M2_crash l D g d2 (xs (i + 1)) μ) (cwLX2_crash hts) rfl hl.1 (rest := [.int v]) (by simp [Value.category]) rfl dL_law_265 (fun w μ1 H locs p2 hI => ?_)
  obtain ⟨e1, hSy⟩ := sim_crash hV hL1 hN p1 p2
  exact lv_icmp_eq (tgt := 473) hx hb dL_law_268 (by decide) (fun _ => next _ _ _ _ hSy hI) (fun z => absurd e1 z)
set_option maxHeartbeats 4000000 in
theorem la_c5 {p : Program} {l : Launch} {e : Env} {s : State} {m : MethodId} {args : Array Value} {below : List Frame} {meth : Method} {c : Code} {H : Heap} {locs : List Loc} {Q : State → Prop} {ls : Array Slot} {D : va_G} {h g : Nat → Nat} {d d2 : Nat → ClassId} {σ μ : FS} {A : Nat → Prop} {R b L i : Nat} {xs : Nat → Int32} (hX : la_X p m c s args D d d2 A b L xs) (hI : la_I D R h d σ g d2 μ A s.heap H locs) (hi : i + 4 ≤ L) (hSy : Sy R σ μ) (hl : lv_has ls 4 [(3, .int (nI i)), (2, .ref (g 0)), (1, .ref (h 0)), (0, .ref b)]) (next : ∀ (σ1 μ1 : FS) (H1 : Heap) (locs1 : List Loc), Sy R σ1 μ1 → la_I D R h d σ1 g d2 μ1 A s.heap H1 locs1 → W p l e room_1 s m args below meth c H1 locs1 18 315 Q (F0 m 473 ls [])) : W p l e room_1 s m args below meth c H locs 18 315 Q (F0 m 273 ls []) := by
  have hx := hX.1.1
  have hb := hX.1.2.1
  have hts := hX.1.2.2.2.2
  have hL7 := hX.2.2.2.2.2.2.2
  obtain ⟨U, K, hV, hL1, hN⟩ := hSy
  by_cases q : xs (i + 2) = 0
  · skip
    refine lv_aload_n hx hb dL_law_273 rfl (lv_at hl 2 rfl) ?_
    refine lv_aload_n hx hb dL_law_274 rfl (lv_at hl 3 rfl) ?_
    refine lv_iload_n hx hb dL_law_275 rfl (lv_at hl 0 rfl) ?_
    refine lv_iconst (v := nI 1) hx hb dL_law_276 (by decide) ?_
    refine n_iadd hx hb dL_law_277 ?_
    refine la_ld hX hI (i + 1) (by omega) dL_law_278 ?_
    refine lv_aload_n hx hb dL_law_279 rfl (lv_at hl 3 rfl) ?_
    refine lv_iload_n hx hb dL_law_280 rfl (lv_at hl 0 rfl) ?_
    refine lv_iconst (v := nI 2) hx hb dL_law_281 (by decide) ?_
    refine n_iadd hx hb dL_law_282 ?_
    refine la_ld hX hI (i + 2) (by omega) dL_law_283 ?_
    refine lv_if_eq (tgt := 291) hx hb dL_law_284 (by decide) (fun z => ?_) (fun z => ?_)
    · skip
      refine lv_iconst (v := 0) hx hb dL_law_291 (by decide) ?_
      refine la_fs hX hI (M_crashInSync l D h d R (xs (i + 1)) 0 σ U K hV) (cwLX1_crashInSync hts) rfl hl.1 (rest := []) (by simp [Value.category]) rfl dL_law_292 (fun v σ1 H locs p1 hI => ?_)
      refine lv_aload_n hx hb dL_law_295 rfl (lv_at hl 1 rfl) ?_
      refine lv_aload_n hx hb dL_law_296 rfl (lv_at hl 3 rfl) ?_
      refine lv_iload_n hx hb dL_law_297 rfl (lv_at hl 0 rfl) ?_
      refine lv_iconst (v := nI 1) hx hb dL_law_298 (by decide) ?_
      refine n_iadd hx hb dL_law_299 ?_
      refine la_ld hX hI (i + 1) (by omega) dL_law_300 ?_
      refine lv_aload_n hx hb dL_law_301 rfl (lv_at hl 3 rfl) ?_
      refine lv_iload_n hx hb dL_law_302 rfl (lv_at hl 0 rfl) ?_
      refine lv_iconst (v := nI 2) hx hb dL_law_303 (by decide) ?_
      refine n_iadd hx hb dL_law_304 ?_
      refine la_ld hX hI (i + 2) (by omega) dL_law_305 ?_
      refine lv_if_eq (tgt := 313) hx hb dL_law_306 (by decide) (fun z => ?_) (fun z => ?_)
      · skip
        refine lv_iconst (v := 0) hx hb dL_law_313 (by decide) ?_
        refine la_md hX hI (M2_crashInSync l D g d2 (xs (i + 1)) 0 μ) (cwLX2_crashInSync hts) rfl hl.1 (rest := [.int v]) (by simp [Value.category]) rfl dL_law_314 (fun w μ1 H locs p2 hI => ?_)
        obtain ⟨e1, hSy⟩ := sim_crash hV hL1 hN p1 p2
        exact lv_icmp_eq (tgt := 473) hx hb dL_law_317 (by decide) (fun _ => next _ _ _ _ hSy hI) (fun z => absurd e1 z)
      · exact absurd q z
    · exact absurd q z
  · skip
    refine lv_aload_n hx hb dL_law_273 rfl (lv_at hl 2 rfl) ?_
    refine lv_aload_n hx hb dL_law_274 rfl (lv_at hl 3 rfl) ?_
    refine lv_iload_n hx hb dL_law_275 rfl (lv_at hl 0 rfl) ?_
    refine lv_iconst (v := nI 1) hx hb dL_law_276 (by decide) ?_
    refine n_iadd hx hb dL_law_277 ?_
    refine la_ld hX hI (i + 1) (by omega) dL_law_278 ?_
    refine lv_aload_n hx hb dL_law_279 rfl (lv_at hl 3 rfl) ?_
    refine lv_iload_n hx hb dL_law_280 rfl (lv_at hl 0 rfl) ?_
    refine lv_iconst (v := nI 2) hx hb dL_law_281 (by decide) ?_
    refine n_iadd hx hb dL_law_282 ?_
    refine la_ld hX hI (i + 2) (by omega) dL_law_283 ?_
    refine lv_if_eq (tgt := 291) hx hb dL_law_284 (by decide) (fun z => ?_) (fun z => ?_)
    · exact absurd z q
    · skip
      refine lv_iconst (v := 1) hx hb dL_law_287 (by decide) ?_
      refine lv_goto (tgt := 292) hx hb dL_law_288 (by decide) ?_
      refine la_fs hX hI (M_crashInSync l D h d R (xs (i + 1)) 1 σ U K hV) (cwLX1_crashInSync hts) rfl hl.1 (rest := []) (by simp [Value.category]) rfl dL_law_292 (fun v σ1 H locs p1 hI => ?_)
      refine lv_aload_n hx hb dL_law_295 rfl (lv_at hl 1 rfl) ?_
      refine lv_aload_n hx hb dL_law_296 rfl (lv_at hl 3 rfl) ?_
      refine lv_iload_n hx hb dL_law_297 rfl (lv_at hl 0 rfl) ?_
      refine lv_iconst (v := nI 1) hx hb dL_law_298 (by decide) ?_
      refine n_iadd hx hb dL_law_299 ?_
      refine la_ld hX hI (i + 1) (by omega) dL_law_300 ?_
      refine lv_aload_n hx hb dL_law_301 rfl (lv_at hl 3 rfl) ?_
      refine lv_iload_n hx hb dL_law_302 rfl (lv_at hl 0 rfl) ?_
      refine lv_iconst (v := nI 2) hx hb dL_law_303 (by decide) ?_
      refine n_iadd hx hb dL_law_304 ?_
      refine la_ld hX hI (i + 2) (by omega) dL_law_305 ?_
      refine lv_if_eq (tgt := 313) hx hb dL_law_306 (by decide) (fun z => ?_) (fun z => ?_)
      · exact absurd z q
      · skip
        refine lv_iconst (v := 1) hx hb dL_law_309 (by decide) ?_
        refine lv_goto (tgt := 314) hx hb dL_law_310 (by decide) ?_
        refine la_md hX hI (M2_crashInSync l D g d2 (xs (i + 1)) 1 μ) (cwLX2_crashInSync hts) rfl hl.1 (rest := [.int v]) (by simp [Value.category]) rfl dL_law_314 (fun w μ1 H locs p2 hI => ?_)
        obtain ⟨e1, hSy⟩ := sim_crash hV hL1 hN p1 p2
        exact lv_icmp_eq (tgt := 473) hx hb dL_law_317 (by decide) (fun _ => next _ _ _ _ hSy hI) (fun z => absurd e1 z)
set_option maxHeartbeats 4000000 in
theorem la_c6 {p : Program} {l : Launch} {e : Env} {s : State} {m : MethodId} {args : Array Value} {below : List Frame} {meth : Method} {c : Code} {H : Heap} {locs : List Loc} {Q : State → Prop} {ls : Array Slot} {D : va_G} {h g : Nat → Nat} {d d2 : Nat → ClassId} {σ μ : FS} {A : Nat → Prop} {R b L i : Nat} {xs : Nat → Int32} (hX : la_X p m c s args D d d2 A b L xs) (hI : la_I D R h d σ g d2 μ A s.heap H locs) (hi : i + 4 ≤ L) (hSy : Sy R σ μ) (hl : lv_has ls 4 [(3, .int (nI i)), (2, .ref (g 0)), (1, .ref (h 0)), (0, .ref b)]) (next : ∀ (σ1 μ1 : FS) (H1 : Heap) (locs1 : List Loc), Sy R σ1 μ1 → la_I D R h d σ1 g d2 μ1 A s.heap H1 locs1 → W p l e room_1 s m args below meth c H1 locs1 18 315 Q (F0 m 473 ls [])) : W p l e room_1 s m args below meth c H locs 18 315 Q (F0 m 322 ls []) := by
  have hx := hX.1.1
  have hb := hX.1.2.1
  have hts := hX.1.2.2.2.2
  have hL7 := hX.2.2.2.2.2.2.2
  obtain ⟨U, K, hV, hL1, hN⟩ := hSy
  refine lv_aload_n hx hb dL_law_322 rfl (lv_at hl 2 rfl) ?_
  refine lv_aload_n hx hb dL_law_323 rfl (lv_at hl 3 rfl) ?_
  refine lv_iload_n hx hb dL_law_324 rfl (lv_at hl 0 rfl) ?_
  refine lv_iconst (v := nI 1) hx hb dL_law_325 (by decide) ?_
  refine n_iadd hx hb dL_law_326 ?_
  refine la_ld hX hI (i + 1) (by omega) dL_law_327 ?_
  refine la_fs hX hI (M_restart l D h d R (xs (i + 1)) σ) (cwLX1_restart hts) rfl hl.1 (rest := []) (by simp [Value.category]) rfl dL_law_328 (fun v σ1 H locs p1 hI => ?_)
  refine lv_aload_n hx hb dL_law_331 rfl (lv_at hl 1 rfl) ?_
  refine lv_aload_n hx hb dL_law_332 rfl (lv_at hl 3 rfl) ?_
  refine lv_iload_n hx hb dL_law_333 rfl (lv_at hl 0 rfl) ?_
  refine lv_iconst (v := nI 1) hx hb dL_law_334 (by decide) ?_
  refine n_iadd hx hb dL_law_335 ?_
  refine la_ld hX hI (i + 1) (by omega) dL_law_336 ?_
  refine la_md hX hI (M2_restart l D g d2 (xs (i + 1)) μ) (cwLX2_restart hts) rfl hl.1 (rest := [.int v]) (by simp [Value.category]) rfl dL_law_337 (fun w μ1 H locs p2 hI => ?_)
  obtain ⟨e1, hSy⟩ := sim_restart hV hL1 hN p1 p2
  exact lv_icmp_eq (tgt := 473) hx hb dL_law_340 (by decide) (fun _ => next _ _ _ _ hSy hI) (fun z => absurd e1 z)
set_option maxHeartbeats 4000000 in
theorem la_c7 {p : Program} {l : Launch} {e : Env} {s : State} {m : MethodId} {args : Array Value} {below : List Frame} {meth : Method} {c : Code} {H : Heap} {locs : List Loc} {Q : State → Prop} {ls : Array Slot} {D : va_G} {h g : Nat → Nat} {d d2 : Nat → ClassId} {σ μ : FS} {A : Nat → Prop} {R b L i : Nat} {xs : Nat → Int32} (hX : la_X p m c s args D d d2 A b L xs) (hI : la_I D R h d σ g d2 μ A s.heap H locs) (hi : i + 4 ≤ L) (hSy : Sy R σ μ) (hl : lv_has ls 4 [(3, .int (nI i)), (2, .ref (g 0)), (1, .ref (h 0)), (0, .ref b)]) (next : ∀ (σ1 μ1 : FS) (H1 : Heap) (locs1 : List Loc), Sy R σ1 μ1 → la_I D R h d σ1 g d2 μ1 A s.heap H1 locs1 → W p l e room_1 s m args below meth c H1 locs1 18 315 Q (F0 m 473 ls [])) : W p l e room_1 s m args below meth c H locs 18 315 Q (F0 m 345 ls []) := by
  have hx := hX.1.1
  have hb := hX.1.2.1
  have hts := hX.1.2.2.2.2
  have hL7 := hX.2.2.2.2.2.2.2
  obtain ⟨U, K, hV, hL1, hN⟩ := hSy
  refine lv_aload_n hx hb dL_law_345 rfl (lv_at hl 2 rfl) ?_
  refine la_fs hX hI (M_powerCut l D h d R σ U K hV) (cwLX1_powerCut hts) rfl hl.1 (rest := []) (by simp [Value.category]) rfl dL_law_346 (fun v σ1 H locs p1 hI => ?_)
  refine lv_aload_n hx hb dL_law_349 rfl (lv_at hl 1 rfl) ?_
  refine la_md hX hI (M2_powerCut l D g d2 μ) (cwLX2_powerCut hts) rfl hl.1 (rest := [.int v]) (by simp [Value.category]) rfl dL_law_350 (fun w μ1 H locs p2 hI => ?_)
  obtain ⟨e1, hSy⟩ := sim_power hL1 p1 p2
  exact lv_icmp_eq (tgt := 473) hx hb dL_law_353 (by decide) (fun _ => next _ _ _ _ hSy hI) (fun z => absurd e1 z)
set_option maxHeartbeats 4000000 in
theorem la_c8 {p : Program} {l : Launch} {e : Env} {s : State} {m : MethodId} {args : Array Value} {below : List Frame} {meth : Method} {c : Code} {H : Heap} {locs : List Loc} {Q : State → Prop} {ls : Array Slot} {D : va_G} {h g : Nat → Nat} {d d2 : Nat → ClassId} {σ μ : FS} {A : Nat → Prop} {R b L i : Nat} {xs : Nat → Int32} (hX : la_X p m c s args D d d2 A b L xs) (hI : la_I D R h d σ g d2 μ A s.heap H locs) (hi : i + 4 ≤ L) (hSy : Sy R σ μ) (hl : lv_has ls 4 [(3, .int (nI i)), (2, .ref (g 0)), (1, .ref (h 0)), (0, .ref b)]) (next : ∀ (σ1 μ1 : FS) (H1 : Heap) (locs1 : List Loc), Sy R σ1 μ1 → la_I D R h d σ1 g d2 μ1 A s.heap H1 locs1 → W p l e room_1 s m args below meth c H1 locs1 18 315 Q (F0 m 473 ls [])) : W p l e room_1 s m args below meth c H locs 18 315 Q (F0 m 358 ls []) := by
  have hx := hX.1.1
  have hb := hX.1.2.1
  have hts := hX.1.2.2.2.2
  have hL7 := hX.2.2.2.2.2.2.2
  obtain ⟨U, K, hV, hL1, hN⟩ := hSy
  refine lv_aload_n hx hb dL_law_358 rfl (lv_at hl 2 rfl) ?_
  refine lv_aload_n hx hb dL_law_359 rfl (lv_at hl 3 rfl) ?_
  refine lv_iload_n hx hb dL_law_360 rfl (lv_at hl 0 rfl) ?_
  refine lv_iconst (v := nI 1) hx hb dL_law_361 (by decide) ?_
  refine n_iadd hx hb dL_law_362 ?_
  refine la_ld hX hI (i + 1) (by omega) dL_law_363 ?_
  refine la_fs hX hI (M_content l D h d R (xs (i + 1)) σ U K hV) (cwLX1_content hts) rfl hl.1 (rest := []) (by simp [Value.category]) rfl dL_law_364 (fun v σ1 H locs p1 hI => ?_)
  refine lv_aload_n hx hb dL_law_367 rfl (lv_at hl 1 rfl) ?_
  refine lv_aload_n hx hb dL_law_368 rfl (lv_at hl 3 rfl) ?_
  refine lv_iload_n hx hb dL_law_369 rfl (lv_at hl 0 rfl) ?_
  refine lv_iconst (v := nI 1) hx hb dL_law_370 (by decide) ?_
  refine n_iadd hx hb dL_law_371 ?_
  refine la_ld hX hI (i + 1) (by omega) dL_law_372 ?_
  refine la_md hX hI (M2_content l D g d2 (xs (i + 1)) μ) (cwLX2_content hts) rfl hl.1 (rest := [.int v]) (by simp [Value.category]) rfl dL_law_373 (fun w μ1 H locs p2 hI => ?_)
  obtain ⟨e1, hSy⟩ := sim_content hV hL1 hN p1 p2
  exact lv_icmp_eq (tgt := 473) hx hb dL_law_376 (by decide) (fun _ => next _ _ _ _ hSy hI) (fun z => absurd e1 z)
set_option maxHeartbeats 4000000 in
theorem la_c9 {p : Program} {l : Launch} {e : Env} {s : State} {m : MethodId} {args : Array Value} {below : List Frame} {meth : Method} {c : Code} {H : Heap} {locs : List Loc} {Q : State → Prop} {ls : Array Slot} {D : va_G} {h g : Nat → Nat} {d d2 : Nat → ClassId} {σ μ : FS} {A : Nat → Prop} {R b L i : Nat} {xs : Nat → Int32} (hX : la_X p m c s args D d d2 A b L xs) (hI : la_I D R h d σ g d2 μ A s.heap H locs) (hi : i + 4 ≤ L) (hSy : Sy R σ μ) (hl : lv_has ls 4 [(3, .int (nI i)), (2, .ref (g 0)), (1, .ref (h 0)), (0, .ref b)]) (next : ∀ (σ1 μ1 : FS) (H1 : Heap) (locs1 : List Loc), Sy R σ1 μ1 → la_I D R h d σ1 g d2 μ1 A s.heap H1 locs1 → W p l e room_1 s m args below meth c H1 locs1 18 315 Q (F0 m 473 ls [])) : W p l e room_1 s m args below meth c H locs 18 315 Q (F0 m 381 ls []) := by
  have hx := hX.1.1
  have hb := hX.1.2.1
  have hts := hX.1.2.2.2.2
  have hL7 := hX.2.2.2.2.2.2.2
  obtain ⟨U, K, hV, hL1, hN⟩ := hSy
  refine lv_aload_n hx hb dL_law_381 rfl (lv_at hl 2 rfl) ?_
  refine lv_aload_n hx hb dL_law_382 rfl (lv_at hl 3 rfl) ?_
  refine lv_iload_n hx hb dL_law_383 rfl (lv_at hl 0 rfl) ?_
  refine lv_iconst (v := nI 1) hx hb dL_law_384 (by decide) ?_
  refine n_iadd hx hb dL_law_385 ?_
  refine la_ld hX hI (i + 1) (by omega) dL_law_386 ?_
  refine la_fs hX hI (M_safe l D h d R (xs (i + 1)) σ) (cwLX1_safe hts) rfl hl.1 (rest := []) (by simp [Value.category]) rfl dL_law_387 (fun v σ1 H locs p1 hI => ?_)
  refine lv_aload_n hx hb dL_law_390 rfl (lv_at hl 1 rfl) ?_
  refine lv_aload_n hx hb dL_law_391 rfl (lv_at hl 3 rfl) ?_
  refine lv_iload_n hx hb dL_law_392 rfl (lv_at hl 0 rfl) ?_
  refine lv_iconst (v := nI 1) hx hb dL_law_393 (by decide) ?_
  refine n_iadd hx hb dL_law_394 ?_
  refine la_ld hX hI (i + 1) (by omega) dL_law_395 ?_
  refine la_md hX hI (M2_safe l D g d2 (xs (i + 1)) μ) (cwLX2_safe hts) rfl hl.1 (rest := [.int v]) (by simp [Value.category]) rfl dL_law_396 (fun w μ1 H locs p2 hI => ?_)
  obtain ⟨e1, hSy⟩ := sim_safeq hV hL1 hN p1 p2
  exact lv_icmp_eq (tgt := 473) hx hb dL_law_399 (by decide) (fun _ => next _ _ _ _ hSy hI) (fun z => absurd e1 z)
set_option maxHeartbeats 4000000 in
theorem la_c10 {p : Program} {l : Launch} {e : Env} {s : State} {m : MethodId} {args : Array Value} {below : List Frame} {meth : Method} {c : Code} {H : Heap} {locs : List Loc} {Q : State → Prop} {ls : Array Slot} {D : va_G} {h g : Nat → Nat} {d d2 : Nat → ClassId} {σ μ : FS} {A : Nat → Prop} {R b L i : Nat} {xs : Nat → Int32} (hX : la_X p m c s args D d d2 A b L xs) (hI : la_I D R h d σ g d2 μ A s.heap H locs) (hi : i + 4 ≤ L) (hSy : Sy R σ μ) (hl : lv_has ls 4 [(3, .int (nI i)), (2, .ref (g 0)), (1, .ref (h 0)), (0, .ref b)]) (next : ∀ (σ1 μ1 : FS) (H1 : Heap) (locs1 : List Loc), Sy R σ1 μ1 → la_I D R h d σ1 g d2 μ1 A s.heap H1 locs1 → W p l e room_1 s m args below meth c H1 locs1 18 315 Q (F0 m 473 ls [])) : W p l e room_1 s m args below meth c H locs 18 315 Q (F0 m 404 ls []) := by
  have hx := hX.1.1
  have hb := hX.1.2.1
  have hts := hX.1.2.2.2.2
  have hL7 := hX.2.2.2.2.2.2.2
  obtain ⟨U, K, hV, hL1, hN⟩ := hSy
  refine lv_aload_n hx hb dL_law_404 rfl (lv_at hl 2 rfl) ?_
  refine lv_aload_n hx hb dL_law_405 rfl (lv_at hl 3 rfl) ?_
  refine lv_iload_n hx hb dL_law_406 rfl (lv_at hl 0 rfl) ?_
  refine lv_iconst (v := nI 1) hx hb dL_law_407 (by decide) ?_
  refine n_iadd hx hb dL_law_408 ?_
  refine la_ld hX hI (i + 1) (by omega) dL_law_409 ?_
  refine la_fs hX hI (M_owner l D h d R (xs (i + 1)) σ U K hV) (cwLX1_owner hts) rfl hl.1 (rest := []) (by simp [Value.category]) rfl dL_law_410 (fun v σ1 H locs p1 hI => ?_)
  refine lv_aload_n hx hb dL_law_413 rfl (lv_at hl 1 rfl) ?_
  refine lv_aload_n hx hb dL_law_414 rfl (lv_at hl 3 rfl) ?_
  refine lv_iload_n hx hb dL_law_415 rfl (lv_at hl 0 rfl) ?_
  refine lv_iconst (v := nI 1) hx hb dL_law_416 (by decide) ?_
  refine n_iadd hx hb dL_law_417 ?_
  refine la_ld hX hI (i + 1) (by omega) dL_law_418 ?_
  refine la_md hX hI (M2_owner l D g d2 (xs (i + 1)) μ) (cwLX2_owner hts) rfl hl.1 (rest := [.int v]) (by simp [Value.category]) rfl dL_law_419 (fun w μ1 H locs p2 hI => ?_)
  obtain ⟨e1, hSy⟩ := sim_owner hV hL1 hN p1 p2
  exact lv_icmp_eq (tgt := 473) hx hb dL_law_422 (by decide) (fun _ => next _ _ _ _ hSy hI) (fun z => absurd e1 z)
set_option maxHeartbeats 4000000 in
theorem la_c11 {p : Program} {l : Launch} {e : Env} {s : State} {m : MethodId} {args : Array Value} {below : List Frame} {meth : Method} {c : Code} {H : Heap} {locs : List Loc} {Q : State → Prop} {ls : Array Slot} {D : va_G} {h g : Nat → Nat} {d d2 : Nat → ClassId} {σ μ : FS} {A : Nat → Prop} {R b L i : Nat} {xs : Nat → Int32} (hX : la_X p m c s args D d d2 A b L xs) (hI : la_I D R h d σ g d2 μ A s.heap H locs) (hi : i + 4 ≤ L) (hSy : Sy R σ μ) (hl : lv_has ls 4 [(3, .int (nI i)), (2, .ref (g 0)), (1, .ref (h 0)), (0, .ref b)]) (next : ∀ (σ1 μ1 : FS) (H1 : Heap) (locs1 : List Loc), Sy R σ1 μ1 → la_I D R h d σ1 g d2 μ1 A s.heap H1 locs1 → W p l e room_1 s m args below meth c H1 locs1 18 315 Q (F0 m 473 ls [])) : W p l e room_1 s m args below meth c H locs 18 315 Q (F0 m 427 ls []) := by
  have hx := hX.1.1
  have hb := hX.1.2.1
  have hts := hX.1.2.2.2.2
  have hL7 := hX.2.2.2.2.2.2.2
  obtain ⟨U, K, hV, hL1, hN⟩ := hSy
  refine lv_aload_n hx hb dL_law_427 rfl (lv_at hl 2 rfl) ?_
  refine lv_aload_n hx hb dL_law_428 rfl (lv_at hl 3 rfl) ?_
  refine lv_iload_n hx hb dL_law_429 rfl (lv_at hl 0 rfl) ?_
  refine lv_iconst (v := nI 1) hx hb dL_law_430 (by decide) ?_
  refine n_iadd hx hb dL_law_431 ?_
  refine la_ld hX hI (i + 1) (by omega) dL_law_432 ?_
  refine la_fs hX hI (M_openCount l D h d R (xs (i + 1)) σ U K hV) (cwLX1_unsafe hts) rfl hl.1 (rest := []) (by simp [Value.category]) rfl dL_law_433 (fun v σ1 H locs p1 hI => ?_)
  refine lv_aload_n hx hb dL_law_436 rfl (lv_at hl 1 rfl) ?_
  refine lv_aload_n hx hb dL_law_437 rfl (lv_at hl 3 rfl) ?_
  refine lv_iload_n hx hb dL_law_438 rfl (lv_at hl 0 rfl) ?_
  refine lv_iconst (v := nI 1) hx hb dL_law_439 (by decide) ?_
  refine n_iadd hx hb dL_law_440 ?_
  refine la_ld hX hI (i + 1) (by omega) dL_law_441 ?_
  refine la_md hX hI (M2_openCount l D g d2 (xs (i + 1)) μ) (cwLX2_unsafe hts) rfl hl.1 (rest := [.int v]) (by simp [Value.category]) rfl dL_law_442 (fun w μ1 H locs p2 hI => ?_)
  obtain ⟨e1, hSy⟩ := sim_count hV hL1 hN p1 p2
  exact lv_icmp_eq (tgt := 473) hx hb dL_law_445 (by decide) (fun _ => next _ _ _ _ hSy hI) (fun z => absurd e1 z)
set_option maxHeartbeats 4000000 in
theorem la_c12 {p : Program} {l : Launch} {e : Env} {s : State} {m : MethodId} {args : Array Value} {below : List Frame} {meth : Method} {c : Code} {H : Heap} {locs : List Loc} {Q : State → Prop} {ls : Array Slot} {D : va_G} {h g : Nat → Nat} {d d2 : Nat → ClassId} {σ μ : FS} {A : Nat → Prop} {R b L i : Nat} {xs : Nat → Int32} (hX : la_X p m c s args D d d2 A b L xs) (hI : la_I D R h d σ g d2 μ A s.heap H locs) (hi : i + 4 ≤ L) (hSy : Sy R σ μ) (hl : lv_has ls 4 [(3, .int (nI i)), (2, .ref (g 0)), (1, .ref (h 0)), (0, .ref b)]) (next : ∀ (σ1 μ1 : FS) (H1 : Heap) (locs1 : List Loc), Sy R σ1 μ1 → la_I D R h d σ1 g d2 μ1 A s.heap H1 locs1 → W p l e room_1 s m args below meth c H1 locs1 18 315 Q (F0 m 473 ls [])) : W p l e room_1 s m args below meth c H locs 18 315 Q (F0 m 450 ls []) := by
  have hx := hX.1.1
  have hb := hX.1.2.1
  have hts := hX.1.2.2.2.2
  have hL7 := hX.2.2.2.2.2.2.2
  obtain ⟨U, K, hV, hL1, hN⟩ := hSy
  refine lv_aload_n hx hb dL_law_450 rfl (lv_at hl 2 rfl) ?_
  refine lv_aload_n hx hb dL_law_451 rfl (lv_at hl 3 rfl) ?_
  refine lv_iload_n hx hb dL_law_452 rfl (lv_at hl 0 rfl) ?_
  refine lv_iconst (v := nI 1) hx hb dL_law_453 (by decide) ?_
  refine n_iadd hx hb dL_law_454 ?_
  refine la_ld hX hI (i + 1) (by omega) dL_law_455 ?_
  refine la_fs hX hI (M_up l D h d R (xs (i + 1)) σ) (cwLX1_up hts) rfl hl.1 (rest := []) (by simp [Value.category]) rfl dL_law_456 (fun v σ1 H locs p1 hI => ?_)
  refine lv_aload_n hx hb dL_law_459 rfl (lv_at hl 1 rfl) ?_
  refine lv_aload_n hx hb dL_law_460 rfl (lv_at hl 3 rfl) ?_
  refine lv_iload_n hx hb dL_law_461 rfl (lv_at hl 0 rfl) ?_
  refine lv_iconst (v := nI 1) hx hb dL_law_462 (by decide) ?_
  refine n_iadd hx hb dL_law_463 ?_
  refine la_ld hX hI (i + 1) (by omega) dL_law_464 ?_
  refine la_md hX hI (M2_up l D g d2 (xs (i + 1)) μ) (cwLX2_up hts) rfl hl.1 (rest := [.int v]) (by simp [Value.category]) rfl dL_law_465 (fun w μ1 H locs p2 hI => ?_)
  obtain ⟨e1, hSy⟩ := sim_up hV hL1 hN p1 p2
  exact lv_icmp_eq (tgt := 473) hx hb dL_law_468 (by decide) (fun _ => next _ _ _ _ hSy hI) (fun z => absurd e1 z)
end
section
set_option maxRecDepth 100000
/-! THE CLAIM OUT OF ONE WALK OF THE LAW'S BODY. Your part is whole_start (and what it stands on); all else here is the same for every law, but numbers. -/
def R_law : String := "SharedDiskFsLaw"
def lw_P (b : Addr) (xs : List Int32) (args : Array Value) (s : State) : Prop := args = #[.ref b] ∧ s.IntsAt b xs ∧ xs.length ≤ 257 ∧ (Jvm.Cond.and given_1 narrow_1).before args s = true
def lw_Q (_ : Array Value) (s : State) (o : Outcome) (t : State) : Prop := o = .returned (some (.int 1)) ∧ Framed s o t [] 600000 7290000
def lw_Z (below : List Frame) (a : Array Value) (s : State) : State → Prop := fun t => ∃ o, t.status = .running ∧ Ended t below o ∧ lw_Q a s o t
/-- the law's own end, with 1 on the stack, nothing written that was there before, its room as the claim has it -/
theorem lw_ret {p : Program} {l : Launch} {e : Env} {s : State} {m : MethodId} {below : List Frame} {meth : Method} {c : Code} {b : Nat} (hx : p.tables.exec = Jvm.exec) (hb : c.code = code) (hr : meth.sig.returnType = ret) (hlocks : meth.locks = false) {pc : Nat} {H : Heap} {ls : Array Slot} (hdg : decode code pc = .ok (.ireturn, 1)) : W p l e room_1 s m #[Value.ref b] below meth c H [] 600000 7290000 (lw_Z below #[Value.ref b] s) (F0 m pc ls [.int 1]) := by
  intro T hT X
  obtain ⟨fs, hret, hrun, hended, hW, hframe⟩ := X.leave (v := some (.int 1)) (hlocks := hlocks) (fun h => by rw [hr] at h; cases h)
  have hmeth' : T.vm.method? m = some meth := X.method'
  refine ⟨T.setFrames fs, ?_, .returned (some (.int 1)), hrun, hended, rfl, ⟨_, rfl⟩, hW, hframe⟩
  jvm_step X.here [X.here.top, hx, hb, hdg, hmeth', hr, ret, narrow_b1]
  (try refine ⟨rfl, ?_⟩); (try refine ⟨rfl, ?_⟩)
  first | (intro acts; rw [hret _ acts rfl rfl rfl]) | rw [hret _ _ rfl rfl rfl]
  exact Steps.refl _
/-- what holds at the law's entry: the machine, the code, the tables' words (any of lw_tbl by 'hts w (by decide +kernel)'), the script of L ints xs at the cell b, what the Statement gives of the start (any of its parts by flat_of_before) -/
def lw_At (p : Program) (s : State) (m : MethodId) (meth : Method) (c : Code) (b L : Nat) (xs : Nat → Int32) : Prop :=
  p.tables.exec = Jvm.exec ∧ c.code = code ∧ meth.sig.returnType = ret ∧ c.maxLocals = 4 ∧ s.vm.findClass R_law = some m.cls ∧ (∀ w ∈ lw_tbl, w.before #[Value.ref b] s = true) ∧ va_X b L xs s s.heap ∧ b < s.heap.size ∧ meth.locks = false ∧ (Jvm.Cond.and given_1 narrow_1).before #[Value.ref b] s = true
end
section
/-! THE LAW: its loop, and its start -/
set_option maxRecDepth 100000
theorem la_go {L i : Nat} (hL : L ≤ 257) (hi : i ≤ L + 4) (h : ¬ Int32.ofNat L - nI 4 < nI i) : i + 4 ≤ L := by
  rcases Nat.lt_or_ge L (i + 4) with q | q
  · exfalso
    apply h
    rw [Int32.lt_iff_toInt_lt]
    rw [show Int32.ofNat L = nI L from rfl, pk_sub_toInt (by omega) (by decide), nI_toInt (by omega)]
    omega
  · exact q
set_option maxHeartbeats 4000000 in
theorem la_loop {p : Program} {l : Launch} {e : Env} {s : State} {m : MethodId} {below : List Frame} {meth : Method} {c : Code} {D : va_G} {h g : Nat → Nat} {d d2 : Nat → ClassId} {A : Nat → Prop} {R b L : Nat} {xs : Nat → Int32} (hX : la_X p m c s #[Value.ref b] D d d2 A b L xs) (hA2 : ∀ q, A q → s.heap.size ≤ q) (hr : meth.sig.returnType = ret) (hlocks : meth.locks = false) : ∀ (k i : Nat) (σ μ : FS) (H : Heap) (locs : List Loc) (ls : Array Slot), L + 5 ≤ i + k → i ≤ L + 4 → Sy R σ μ → la_I D R h d σ g d2 μ A s.heap H locs → lv_has ls 4 [(3, .int (nI i)), (2, .ref (g 0)), (1, .ref (h 0)), (0, .ref b)] → W p l e room_1 s m #[Value.ref b] below meth c H locs 18 315 (lw_Z below #[Value.ref b] s) (F0 m 28 ls []) := by
  have hx := hX.1.1
  have hb := hX.1.2.1
  obtain ⟨hF, hK1, hK2, hA, hbA, hs, hbl, hL⟩ := id hX
  intro k
  induction k with
  | zero => intro i σ μ H locs ls h1 h2; exact absurd h1 (by omega)
  | succ k ih =>
    intro i σ μ H locs ls hk hi hSy hI hl
    refine lv_iload_n hx hb dL_law_28 rfl (lv_at hl 0 rfl) ?_
    refine lv_aload_n hx hb dL_law_29 rfl (lv_at hl 3 rfl) ?_
    refine va_slen hx hb hs hbl hbA hI.2.2 dL_law_30 ?_
    refine lv_iconst (v := nI 4) hx hb dL_law_31 (by decide) ?_
    refine lv_isub hx hb dL_law_32 ?_
    refine lv_icmp_gt (tgt := 479) hx hb dL_law_33 (by decide) (fun q => ?_) (fun q => ?_)
    · refine lv_iconst (v := 1) hx hb dL_law_479 (by decide) ?_
      refine va_forget (fun z hz => hA2 _ (hI.2.2.2.2 z hz)) ?_
      refine W.widen (k := 600000) (n := 7290000) (by decide) (by decide) ?_
      exact lw_ret hx hb hr hlocks dL_law_480
    · have hi4 := la_go hL hi q
      refine lv_aload_n hx hb dL_law_36 rfl (lv_at hl 3 rfl) ?_
      refine lv_iload_n hx hb dL_law_37 rfl (lv_at hl 0 rfl) ?_
      refine la_ld hX hI i (by omega) dL_law_38 ?_
      refine lv_bipush (v := 15) hx hb dL_law_39 (by decide) ?_
      refine lv_iand hx hb dL_law_41 ?_
      obtain ⟨j, hj, ej⟩ := pk_andE (xs i) (m := 15) 4 (by decide)
      refine n_top (y := nI j) ej ?_
      have next : ∀ (σ1 μ1 : FS) (H1 : Heap) (locs1 : List Loc), Sy R σ1 μ1 → la_I D R h d σ1 g d2 μ1 A s.heap H1 locs1 → W p l e room_1 s m #[Value.ref b] below meth c H1 locs1 18 315 (lw_Z below #[Value.ref b] s) (F0 m 473 ls []) := by
        intro σ1 μ1 H1 locs1 hSy1 hI1
        refine lv_iinc (k := 0) (v := nI (i + 4)) (lv' := [(3, .int (nI (i + 4))), (2, .ref (g 0)), (1, .ref (h 0)), (0, .ref b)]) hx hb dL_law_473 hl rfl (nI_add i 4) (by decide) rfl (fun ls hl => ?_)
        refine lv_goto (tgt := 28) hx hb dL_law_476 (by decide) ?_
        exact ih (i + 4) σ1 μ1 H1 locs1 ls (by omega) (by omega) hSy1 hI1 hl
      match j, hj with
      | 0, _ => exact lv_tableIn (off := 66) (tgt := 108) hx hb dL_law_42 (by decide) (by decide) (by decide) (by decide) (la_c0 hX hI hi4 hSy hl next)
      | 1, _ => exact lv_tableIn (off := 99) (tgt := 141) hx hb dL_law_42 (by decide) (by decide) (by decide) (by decide) (la_c1 hX hI hi4 hSy hl next)
      | 2, _ => exact lv_tableIn (off := 142) (tgt := 184) hx hb dL_law_42 (by decide) (by decide) (by decide) (by decide) (la_c2 hX hI hi4 hSy hl next)
      | 3, _ => exact lv_tableIn (off := 185) (tgt := 227) hx hb dL_law_42 (by decide) (by decide) (by decide) (by decide) (la_c3 hX hI hi4 hSy hl next)
      | 4, _ => exact lv_tableIn (off := 208) (tgt := 250) hx hb dL_law_42 (by decide) (by decide) (by decide) (by decide) (la_c4 hX hI hi4 hSy hl next)
      | 5, _ => exact lv_tableIn (off := 231) (tgt := 273) hx hb dL_law_42 (by decide) (by decide) (by decide) (by decide) (la_c5 hX hI hi4 hSy hl next)
      | 6, _ => exact lv_tableIn (off := 280) (tgt := 322) hx hb dL_law_42 (by decide) (by decide) (by decide) (by decide) (la_c6 hX hI hi4 hSy hl next)
      | 7, _ => exact lv_tableIn (off := 303) (tgt := 345) hx hb dL_law_42 (by decide) (by decide) (by decide) (by decide) (la_c7 hX hI hi4 hSy hl next)
      | 8, _ => exact lv_tableIn (off := 316) (tgt := 358) hx hb dL_law_42 (by decide) (by decide) (by decide) (by decide) (la_c8 hX hI hi4 hSy hl next)
      | 9, _ => exact lv_tableIn (off := 339) (tgt := 381) hx hb dL_law_42 (by decide) (by decide) (by decide) (by decide) (la_c9 hX hI hi4 hSy hl next)
      | 10, _ => exact lv_tableIn (off := 362) (tgt := 404) hx hb dL_law_42 (by decide) (by decide) (by decide) (by decide) (la_c10 hX hI hi4 hSy hl next)
      | 11, _ => exact lv_tableIn (off := 385) (tgt := 427) hx hb dL_law_42 (by decide) (by decide) (by decide) (by decide) (la_c11 hX hI hi4 hSy hl next)
      | 12, _ => exact lv_tableIn (off := 408) (tgt := 450) hx hb dL_law_42 (by decide) (by decide) (by decide) (by decide) (la_c12 hX hI hi4 hSy hl next)
      | 13, _ => exact lv_tableOut (tgt := 473) hx hb dL_law_42 (by decide) (by decide) (next σ μ H locs hSy hI)
      | 14, _ => exact lv_tableOut (tgt := 473) hx hb dL_law_42 (by decide) (by decide) (next σ μ H locs hSy hI)
      | 15, _ => exact lv_tableOut (tgt := 473) hx hb dL_law_42 (by decide) (by decide) (next σ μ H locs hSy hI)
      | j + 16, hj => exact absurd hj (by omega)
set_option maxHeartbeats 8000000 in
/-- from the entry, for every script of at most 257 ints, the law comes to its end with true -/
theorem whole_start {p : Program} {e : Env} {s : State} {m : MethodId} {below : List Frame} {meth : Method} {c : Code} (l : Launch) {b L : Nat} {xs : Nat → Int32} (hL : L ≤ 257) (C0 : lw_At p s m meth c b L xs) : W p l e room_1 s m #[Value.ref b] below meth c s.heap [] 0 0 (lw_Z below #[Value.ref b] s) (entryFrame m ([Value.ref b] : List Value).toArray 4) := by
  obtain ⟨hx, hb, hr, hml, hown, hts0, hXs, hbl, hlocks, hgv⟩ := C0
  have hown : s.vm.findClass RX0 = some m.cls := hown
  have hts : ∀ w ∈ lw_all, w.before #[Value.ref b] s = true := fun w hw => hts0 w (lw_all_tbl hw)
  have hA : ∀ q : Nat, s.heap.size ≤ q → (fun q : Nat => s.heap.size ≤ q) q := fun _ h => h
  have hbA : ¬ (fun q : Nat => s.heap.size ≤ q) b := Nat.not_le.mpr hbl
  obtain ⟨c0, iS0, hKn0⟩ := u_known (C := RX1) (T := TX1) (N := 13) (n := 13) hts0 (fun w h => lw_all_tbl (in_X1 w h)) (hts0 _ (lw_all_tbl q31))
  obtain ⟨c1, iS1, hKn1⟩ := u_known (C := RX2) (T := TX2) (N := 4) (n := 4) hts0 (fun w h => lw_all_tbl (in_X2 w h)) (hts0 _ (lw_all_tbl q230))
  obtain ⟨D, hKc⟩ : ∃ D : va_G, ∀ (k : Nat) (q : vw_C), vwCl[k]? = some q → u_Kn s q.1 q.2.1 q.2.2 (D.1 k) (D.2 k) := by
    refine ⟨(fun k => if k = 0 then c0 else c1, fun k => if k = 0 then iS0 else iS1), ?_⟩
    intro k q hq
    match k, hq with
    | 0, hq => cases hq; exact hKn0
    | 1, hq => cases hq; exact hKn1
    | k + 2, hq => simp [vwCl] at hq
  have hS : va_S (fun q : Nat => s.heap.size ≤ q) s.heap s.heap [] := va_S.rf
  have hK : va_K D vwCl [] s := ⟨hKc, fun k q h => by simp at h⟩
  have hP : va_P D vwCl [] s.heap := fun k q h => by simp at h
  have hD : va_D (fun q : Nat => s.heap.size ≤ q) [] := ⟨fun i j p q h => by simp at h, fun k q h => by simp at h⟩
  have hl := lv_entry ([.ref b]) (n := 4) (Nat.le_of_ble_eq_true rfl)
  rw [lg_entry_eq]
  generalize (lg_sl ([.ref b]) ++ List.replicate (4 - (lg_sl ([.ref b])).length) Slot.unset).toArray = ls at hl ⊢
  have hl : lv_has ls 4 [(0, .ref b)] := hl
  generalize hAe : (fun q : Nat => s.heap.size ≤ q) = A at hA hbA hS hD
  have hA2 : ∀ q, A q → s.heap.size ≤ q := fun q h => by rw [← hAe] at h; exact h
  refine va_new (ci := 0) (fs := [.int 0, .null, .null, .null, .null, .null, .null, .null, .null, .null, .null, .null, .null]) (C := RX1) (T := TX1) (N := 13) hx hb hts in_X1 tyX1 tyX1_ok hown (hts _ q30) (hts _ q31) (hts _ q28) hK hP hD hS hA rfl (fun j hj => by match j, hj with | 0, _ => rfl | 1, _ => rfl | 2, _ => rfl | 3, _ => rfl | 4, _ => rfl | 5, _ => rfl | 6, _ => rfl | 7, _ => rfl | 8, _ => rfl | 9, _ => rfl | 10, _ => rfl | 11, _ => rfl | 12, _ => rfl) (by decide) (by decide) dL_law_0 (fun a0 H hP hD hS => ?_)
  have hP : va_P D vwCl (fs_w0 a0) H := hP
  have hD : va_D A (fs_w0 a0) := hD
  refine W.widen (k := 1) (n := 13) (by decide) (by decide) ?_
  refine lv_dup hx hb dL_law_3 rfl ?_
  refine lv_aload_n hx hb dL_law_4 rfl (lv_at hl 0 rfl) ?_
  refine lv_iconst (v := nI 0) hx hb dL_law_5 (by decide) ?_
  refine vp_callSi (W.runS (As := [.ref b, .int (nI 0)]) (rest := [.ref a0, .ref a0]) ⟨hx, hb, hml, hown, hts⟩ (M_cell l b L xs hL) (va_cwS 2 hts (lw_S q226 q227 q27 q228) rfl rfl rfl (by decide +kernel) ⟨by decide, by decide⟩) ⟨fun a U g mk q => ⟨q.1, va_X.moved (u := U) (U := U.calling g mk a) (Vm.Alike.refl U.vm) q.2⟩, fun U hU hW => ⟨rfl, by show va_X b L xs U U.heap; rw [hU]; exact va_X.moved hW.alike (hXs.kept (hS.2.1 b hbl hbA))⟩⟩ rfl rfl hl.1 rfl (lv_room (by simp [Value.category])) dL_law_6 ⟨by decide, by decide⟩) (fun x0 _ => ?_)
  have hFc := va_free (wc := fs_w0 a0) hD hS hA [0] rfl
  refine va_callv (va_runI (As := [.int x0]) (rest := [.ref a0]) ⟨hx, hb, hml, hown, hts⟩ (M_fs_init l D a0 H.size x0) (cwI 1 hts (lw_meth q34) rfl rfl rfl (hts _ q28) (hts _ q32) (hts _ q33) rfl (by decide +kernel) ⟨by decide, by decide⟩) ⟨fun a U g mk q => by obtain ⟨q0, q1, qP, qK, qD⟩ := q; exact ⟨q0, q1, qP, va_K.moved (u := U) (U := U.calling g mk a) (Vm.Alike.refl U.vm) qK, qD⟩, fun U hU hW => ⟨rfl, by rw [hU], by rw [hU]; exact hP, va_K.moved hW.alike hK, hD.weaken (fun _ _ _ _ => trivial)⟩⟩ rfl rfl hl.1 rfl (lv_room (by simp [Value.category])) dL_law_9 ⟨by decide, by decide⟩) hS (fun q _ h => hFc q h) hFc (fun u t H1 locs ht hvm hw hB hz1 hk1 hS => ?_)
  obtain ⟨h, d, R, σ⟩ := u
  obtain ⟨hh0, h2R, hR8, hini⟩ := hw
  obtain ⟨hP1, hK1, hD1⟩ := hB
  dsimp only at hh0 h2R hR8 hini hP1 hK1 hD1
  subst hh0
  rw [ht] at hP1
  have hK1 := va_K.moved hvm.symm hK1
  obtain ⟨hP, hD⟩ := va_join (wr := []) (w1 := ob_w 0 [.int (nI R)] fsKs h d σ) hP hD [0] [] rfl rfl (by decide) (by decide) hk1 hFc hP1 hD1
  have hP : va_P D vwCl (ob_w 0 [.int (nI R)] fsKs h d σ) H1 := hP
  have hD : va_D A (ob_w 0 [.int (nI R)] fsKs h d σ) := hD
  refine W.widen (k := 13) (n := 260) (by decide) (by decide) ?_
  refine lv_astore_n (lv' := [(1, .ref (h 0)), (0, .ref b)]) hx hb dL_law_12 rfl hl (by decide) rfl (fun ls hl => ?_)
  refine va_new (ci := 1) (fs := [.null, .null, .null, .null]) (C := RX2) (T := TX2) (N := 4) hx hb hts in_X2 tyX2 tyX2_ok hown (hts _ q229) (hts _ q230) (hts _ q29) hK1 hP hD hS hA rfl (fun j hj => by match j, hj with | 0, _ => rfl | 1, _ => rfl | 2, _ => rfl | 3, _ => rfl) (by decide) (by decide) dL_law_13 (fun a1 H hP hD hS => ?_)
  refine W.widen (k := 14) (n := 264) (by decide) (by decide) ?_
  refine lv_dup hx hb dL_law_16 rfl ?_
  refine lv_aload_n hx hb dL_law_17 rfl (lv_at hl 1 rfl) ?_
  refine lv_iconst (v := nI 0) hx hb dL_law_18 (by decide) ?_
  refine vp_callSi (W.runS (As := [.ref b, .int (nI 0)]) (rest := [.ref a1, .ref a1]) ⟨hx, hb, hml, hown, hts⟩ (M_cell l b L xs hL) (va_cwS 2 hts (lw_S q226 q227 q27 q228) rfl rfl rfl (by decide +kernel) ⟨by decide, by decide⟩) ⟨fun a U g mk q => ⟨q.1, va_X.moved (u := U) (U := U.calling g mk a) (Vm.Alike.refl U.vm) q.2⟩, fun U hU hW => ⟨rfl, by show va_X b L xs U U.heap; rw [hU]; exact va_X.moved hW.alike (hXs.kept (hS.2.1 b hbl hbA))⟩⟩ rfl rfl hl.1 rfl (lv_room (by simp [Value.category])) dL_law_19 ⟨by decide, by decide⟩) (fun x1 _ => ?_)
  have hPc : va_P D vwCl (md_w0 a1) H := hP.sub [13] rfl
  have hDc : va_D A (md_w0 a1) := hD.sub [13] (by decide) rfl
  have hFc := va_free (wc := md_w0 a1) hD hS hA [13] rfl
  refine va_callv (va_runI (As := [.int x1]) (rest := [.ref a1]) ⟨hx, hb, hml, hown, hts⟩ (M_md_init l D a1 H.size x1) (cwI 1 hts (lw_meth q233) rfl rfl rfl (hts _ q29) (hts _ q231) (hts _ q232) rfl (by decide +kernel) ⟨by decide, by decide⟩) ⟨fun a U g mk q => by obtain ⟨q0, q1, qP, qK, qD⟩ := q; exact ⟨q0, q1, qP, va_K.moved (u := U) (U := U.calling g mk a) (Vm.Alike.refl U.vm) qK, qD⟩, fun U hU hW => ⟨rfl, by rw [hU], by rw [hU]; exact hPc, va_K.moved hW.alike hK, hDc.weaken (fun _ _ _ _ => trivial)⟩⟩ rfl rfl hl.1 rfl (lv_room (by simp [Value.category])) dL_law_22 ⟨by decide, by decide⟩) hS (fun q _ h => hFc q h) hFc (fun u t H2 locs ht hvm hw hB hz1 hk1 hS => ?_)
  obtain ⟨g, d2, μ⟩ := u
  obtain ⟨hg0, hini2⟩ := hw
  obtain ⟨hP2, hK2, hD2⟩ := hB
  dsimp only at hg0 hini2 hP2 hK2 hD2
  subst hg0
  rw [ht] at hP2
  have hK2 := va_K.moved hvm.symm hK2
  obtain ⟨hP, hD⟩ := va_join (wr := ob_w 0 [.int (nI R)] fsKs h d σ) (w1 := ob_w 1 [] mdKs g d2 μ) hP hD [13] [0, 1, 2, 3, 4, 5, 6, 7, 8, 9, 10, 11, 12] rfl rfl (by decide) (by decide) hk1 hFc hP2 hD2
  refine W.widen (k := 18) (n := 315) (by decide) (by decide) ?_
  refine lv_astore_n (lv' := [(2, .ref (g 0)), (1, .ref (h 0)), (0, .ref b)]) hx hb dL_law_25 rfl hl (by decide) rfl (fun ls hl => ?_)
  refine lv_iconst (v := nI 1) hx hb dL_law_26 (by decide) ?_
  refine lv_istore_n (lv' := [(3, .int (nI 1)), (2, .ref (g 0)), (1, .ref (h 0)), (0, .ref b)]) hx hb dL_law_27 rfl hl (by decide) rfl (fun ls hl => ?_)
  exact la_loop ⟨⟨hx, hb, hml, hown, hts⟩, hK1, hK2, hA, hbA, hXs, hbl, hL⟩ hA2 hr hlocks (L + 5) 1 σ μ H2 locs ls (by omega) (by omega) (sim_start h2R hR8 hini hini2) ⟨hP, hD, hS⟩ hl
end
section
set_option maxRecDepth 100000
-- ===== YOUR PART ENDS =====
set_option maxHeartbeats 4000000 in
theorem lw_walk (l : Launch) (b : Addr) (xs : List Int32) : MetFree l x (headSpec (Jvm.Cond.code x code maxLocals ret :: tables_1) room_1) (lw_P b xs) (fun _ _ _ _ _ => True) lw_Q := by
  refine MetFree.of_bodyS (code := code) (maxLocals := maxLocals) (ret := ret) (by decide) ?_ ?_
  · intro args s m h hn
    obtain ⟨meth, c, h1, h2, h3, h4, h5, h6, -, -⟩ := Cond.code_spec hn (atoms_spec (ws := Jvm.Cond.code x code maxLocals ret :: tables_1) h _ List.mem_cons_self)
    exact ⟨meth, c, h1, h2, h3, h4, h5, h6⟩
  · intro p e s m args below meth c s₁ B hml0 hP _
    obtain ⟨rfl, hx, hbd, hgv⟩ := hP
    obtain ⟨scr, harrAt, hlist, hof, hsmall⟩ := hx
    obtain ⟨hcb, hkn, -, -⟩ := State.arrayAt?_spec harrAt
    have hown : s.vm.findClass R_law = some m.cls := findClass_of_methodNamed B.named
    have hts0 : ∀ c ∈ (Jvm.Cond.code x code maxLocals ret :: tables_1), c.before #[Value.ref b] s = true := atoms_spec (ws := Jvm.Cond.code x code maxLocals ret :: tables_1) B.pre
    have hts : ∀ w ∈ lw_tbl, w.before #[Value.ref b] s = true := k2_hts_sels lw_privs (fun w hw => hts0 w (List.mem_cons_of_mem _ hw)) lw_privs_ok
    have hml : c.maxLocals = 4 := B.maxLocals_eq (hts0 _ List.mem_cons_self)
    have X₀ : Stand p l e room_1 s m #[Value.ref b] below meth c s₁ [] 0 0 := Stand.of_body B
    have hh0 : s₁.heap = s.heap := by rw [B.state]; rfl
    have hsz : scr.slots.size = xs.length := by rw [← Array.length_toList, hlist, List.length_map]
    have hval : ∀ j : Nat, j < xs.length → scr.slots[j]? = some (.int (xs.getD j 0)) := fun j hj => by
      rw [← Array.getElem?_toList, hlist]
      simp [hj]
    have hbl : b < s.heap.size := (Array.getElem?_eq_some_iff.mp hcb).1
    have hX : va_X b xs.length (fun j => xs.getD j 0) s s.heap := ⟨scr, hcb, hof, hkn, hsz, hval⟩
    have K : W p l e room_1 s m #[Value.ref b] below meth c s₁.heap [] 0 0 (lw_Z below #[Value.ref b] s) (entryFrame m ([Value.ref b] : List Value).toArray 4) := by
      rw [hh0]
      exact whole_start l hbd ⟨B.exec, B.bytes, B.returns, hml, hown, hts, hX, hbl, B.notSynchronized, hgv⟩
    obtain ⟨t, a1, o, b1, b2, b3⟩ := K s₁ rfl X₀
    exact ⟨t, o, a1, b1, b2, b3⟩
theorem lw_pre_spec {args : Array Value} {s : State} (h : (Jvm.Cond.and given_1 narrow_1).before args s = true) (hr : rest_1_c.before args s = true) : ∃ (b : Addr) (xs : List Int32), lw_P b xs args s := by
  have hs := flat_of_before _ h
  have hq := flat_of_before _ hr
  have hc : (Cond.count 1).before args s = true := hs _ (by decide +kernel)
  have harr : (Cond.arrayOf (.arg 0) .int).before args s = true := hs _ (by decide +kernel)
  have hle : (Cond.le (.length (.arg 0)) (.int 257)).before args s = true := hs _ (by decide +kernel)
  have hlen : (Cond.isInt (.length (.arg 0))).before args s = true := hq _ (by decide +kernel)
  have hall : (Cond.all (.arg 0) (.isInt (.elem (.arg 0) (.index 0)))).before args s = true := hq _ (by decide +kernel)
  obtain ⟨b, xs, hb, hx⟩ := State.ints_of_pre rfl harr hlen hall
  have hsm : xs.length < 2 ^ 31 := hx.choose_spec.2.2.2
  have hev : (Term.length (.arg 0)).eval args s none [] s = some (.int xs.length.toInt32) := hx.length_eval hb
  have hv := Cond.le_ints hev (show (Term.int 257).eval args s none [] s = some (.int 257) from rfl)
  have hd : xs.length.toInt32 ≤ 257 := by
    simpa [Cond.before, Cond.holds, hv] using hle
  have hN : xs.length ≤ 257 := (Int32.ofNat_le_ofNat hsm (by decide)).mp (show Int32.ofNat xs.length ≤ Int32.ofNat 257 from hd)
  exact ⟨b, xs, Cond.one_arg hc (show args[0]? = some (.ref b) from hb), hx, hN, h⟩
theorem lw_comes (l : Launch) : Comes l x (Jvm.Cond.code x code maxLocals ret :: tables_1) room_1 (fun tb e args s => Calls_1 tb e args s ∧ rest_1 tb e args s ∧ Pre_1 tb e args s)
    (fun _ _ args s o t => lw_Q args s o t) := by
  intro p e ha hc hk s m args below hf hfit hheap happ hpre
  obtain ⟨b, xs, hP⟩ := lw_pre_spec hpre.2.2 hpre.2.1
  obtain ⟨k, o, h1, h2, h3, hQ⟩ := lw_walk l b xs p e ha hc hk s m args below hf ((Spec.applies_iff_loose hf).mp happ).1 hP trivial
  exact ⟨k, o, h1, h2, h3, hQ⟩
theorem lw_frame {s t : State} {o : Outcome} {args : Array Value} (h : Framed s o t [] 600000 7290000) :
    Framed s o t (fieldLocs frame_1_writes args s ++ arrayLocs frame_1_arrays args s ++ staticLocs frame_1_statics s) 600000 7290000 := h
theorem lw_limb (L : Cond) (hL : ∀ (args : Array Value) (s t : State), L.after args s (.returned (some (.int 1))) t = true) :
    ArmFor flags0 classFile x code maxLocals ret World_1 tables_1 room_1 Calls_1 rest_1 Pre_1
      (fun tb e a s o t => postC L tb e a s o t ∧ Framed s o t (fieldLocs frame_1_writes a s ++ arrayLocs frame_1_arrays a s ++ staticLocs frame_1_statics s) 600000 7290000) := by
  intro l _ _ _ p e ha hc hk s m args below hf hfit hheap happ hpre
  obtain ⟨k, o, h1, h2, h3, rfl, hF⟩ := lw_comes l p e ha hc hk s m args below hf hfit hheap happ hpre
  exact ⟨k, _, h1, h2, h3, hL args s _, lw_frame hF⟩
theorem i_vc : Claimed_1_1 ∧ Claimed_1_2 := ⟨lw_limb limb_1_1 (fun args s t => by simp [limb_1_1, Cond.after, Cond.holds, Cond.value]), lw_limb limb_1_2 (fun args s t => Cond.after_iff.mpr (by
  first | (rw [show limb_1_2 = Cond.eq .result (.int 1) from rfl, Cond.eq_ints (x := 1) (y := 1) rfl rfl]; simp; done) | (simp [limb_1_2, Cond.value, Term.eval]; done)))⟩
end
