section
-- ===== PART A: goes FIRST, ahead of the names: the tables' words, and 'selects' of the private methods out of them =====
/-- a private method of a class that the tables say can be made, by its rows of tables_1 -/
def lw_okq (q : MethodName × Nat) : Prop := (q.1.cls ≠ "java/lang/invoke/MethodHandle" ∧ q.1.cls ≠ "java/lang/invoke/VarHandle") ∧ Cond.instantiable q.1.cls q.2 ∈ tables_1 ∧ Cond.privateMethod q.1 ∈ tables_1 ∧ Cond.instanceMethod q.1 ∈ tables_1
set_option maxRecDepth 100000
theorem lw_t1 {w : Cond} (h : w ∈ tables_1_1) : w ∈ tables_1 := List.mem_append_left _ h
theorem lw_t2 {w : Cond} (h : w ∈ tables_1_2) : w ∈ tables_1 := List.mem_append_right _ h
theorem lw_p0 : lw_okq (⟨"SpecLoadSched", "badReg", "(I)Z"⟩, 23) := ⟨⟨by decide +kernel, by decide +kernel⟩, lw_t1 (List.mem_of_getElem? (i := 4) rfl), lw_t1 (List.mem_of_getElem? (i := 88) rfl), lw_t1 (List.mem_of_getElem? (i := 89) rfl)⟩
theorem lw_p1 : lw_okq (⟨"SpecLoadSched", "append", "(IIIII)I"⟩, 23) := ⟨⟨by decide +kernel, by decide +kernel⟩, lw_t1 (List.mem_of_getElem? (i := 4) rfl), lw_t1 (List.mem_of_getElem? (i := 92) rfl), lw_t1 (List.mem_of_getElem? (i := 93) rfl)⟩
theorem lw_p2 : lw_okq (⟨"SpecLoadSched", "badAddress", "(I)Z"⟩, 23) := ⟨⟨by decide +kernel, by decide +kernel⟩, lw_t1 (List.mem_of_getElem? (i := 4) rfl), lw_t1 (List.mem_of_getElem? (i := 136) rfl), lw_t1 (List.mem_of_getElem? (i := 137) rfl)⟩
theorem lw_p3 : lw_okq (⟨"SpecLoadSched", "schedule", "()V"⟩, 23) := ⟨⟨by decide +kernel, by decide +kernel⟩, lw_t1 (List.mem_of_getElem? (i := 4) rfl), lw_t1 (List.mem_of_getElem? (i := 152) rfl), lw_t1 (List.mem_of_getElem? (i := 153) rfl)⟩
theorem lw_p4 : lw_okq (⟨"SpecLoadSched", "orderAll", "()V"⟩, 23) := ⟨⟨by decide +kernel, by decide +kernel⟩, lw_t1 (List.mem_of_getElem? (i := 4) rfl), lw_t1 (List.mem_of_getElem? (i := 156) rfl), lw_t1 (List.mem_of_getElem? (i := 157) rfl)⟩
theorem lw_p5 : lw_okq (⟨"SpecLoadSched", "behind", "(II)Z"⟩, 23) := ⟨⟨by decide +kernel, by decide +kernel⟩, lw_t1 (List.mem_of_getElem? (i := 4) rfl), lw_t1 (List.mem_of_getElem? (i := 160) rfl), lw_t1 (List.mem_of_getElem? (i := 161) rfl)⟩
theorem lw_p6 : lw_okq (⟨"SpecLoadSched", "fence", "(I)Z"⟩, 23) := ⟨⟨by decide +kernel, by decide +kernel⟩, lw_t1 (List.mem_of_getElem? (i := 4) rfl), lw_t1 (List.mem_of_getElem? (i := 164) rfl), lw_t1 (List.mem_of_getElem? (i := 165) rfl)⟩
theorem lw_p7 : lw_okq (⟨"SpecLoadSched", "reads", "(II)Z"⟩, 23) := ⟨⟨by decide +kernel, by decide +kernel⟩, lw_t1 (List.mem_of_getElem? (i := 4) rfl), lw_t1 (List.mem_of_getElem? (i := 168) rfl), lw_t1 (List.mem_of_getElem? (i := 169) rfl)⟩
theorem lw_p8 : lw_okq (⟨"SpecLoadSched", "putForward", "(I)V"⟩, 23) := ⟨⟨by decide +kernel, by decide +kernel⟩, lw_t1 (List.mem_of_getElem? (i := 4) rfl), lw_t1 (List.mem_of_getElem? (i := 172) rfl), lw_t1 (List.mem_of_getElem? (i := 173) rfl)⟩
theorem lw_p9 : lw_okq (⟨"SpecLoadSched", "writerBefore", "(II)I"⟩, 23) := ⟨⟨by decide +kernel, by decide +kernel⟩, lw_t1 (List.mem_of_getElem? (i := 4) rfl), lw_t1 (List.mem_of_getElem? (i := 176) rfl), lw_t1 (List.mem_of_getElem? (i := 177) rfl)⟩
theorem lw_p10 : lw_okq (⟨"SpecLoadSched", "measure", "()V"⟩, 23) := ⟨⟨by decide +kernel, by decide +kernel⟩, lw_t1 (List.mem_of_getElem? (i := 4) rfl), lw_t1 (List.mem_of_getElem? (i := 180) rfl), lw_t1 (List.mem_of_getElem? (i := 181) rfl)⟩
theorem lw_p11 : lw_okq (⟨"SpecLoadSched", "heightOf", "(I)I"⟩, 23) := ⟨⟨by decide +kernel, by decide +kernel⟩, lw_t1 (List.mem_of_getElem? (i := 4) rfl), lw_t1 (List.mem_of_getElem? (i := 184) rfl), lw_t1 (List.mem_of_getElem? (i := 185) rfl)⟩
theorem lw_p12 : lw_okq (⟨"SpecLoadSched", "latency", "(I)I"⟩, 23) := ⟨⟨by decide +kernel, by decide +kernel⟩, lw_t1 (List.mem_of_getElem? (i := 4) rfl), lw_t1 (List.mem_of_getElem? (i := 188) rfl), lw_t1 (List.mem_of_getElem? (i := 189) rfl)⟩
theorem lw_p13 : lw_okq (⟨"SpecLoadSched", "issueOne", "(I)V"⟩, 23) := ⟨⟨by decide +kernel, by decide +kernel⟩, lw_t1 (List.mem_of_getElem? (i := 4) rfl), lw_t1 (List.mem_of_getElem? (i := 192) rfl), lw_t1 (List.mem_of_getElem? (i := 193) rfl)⟩
theorem lw_p14 : lw_okq (⟨"SpecLoadSched", "mayIssue", "(II)Z"⟩, 23) := ⟨⟨by decide +kernel, by decide +kernel⟩, lw_t1 (List.mem_of_getElem? (i := 4) rfl), lw_t1 (List.mem_of_getElem? (i := 196) rfl), lw_t1 (List.mem_of_getElem? (i := 197) rfl)⟩
theorem lw_p15 : lw_okq (⟨"SpecLoadSched", "execute", "(I)I"⟩, 23) := ⟨⟨by decide +kernel, by decide +kernel⟩, lw_t1 (List.mem_of_getElem? (i := 4) rfl), lw_t1 (List.mem_of_getElem? (i := 200) rfl), lw_t1 (List.mem_of_getElem? (i := 201) rfl)⟩
def lw_privs_1 : List (MethodName × Nat) := [(⟨"SpecLoadSched", "badReg", "(I)Z"⟩, 23), (⟨"SpecLoadSched", "append", "(IIIII)I"⟩, 23), (⟨"SpecLoadSched", "badAddress", "(I)Z"⟩, 23), (⟨"SpecLoadSched", "schedule", "()V"⟩, 23), (⟨"SpecLoadSched", "orderAll", "()V"⟩, 23), (⟨"SpecLoadSched", "behind", "(II)Z"⟩, 23), (⟨"SpecLoadSched", "fence", "(I)Z"⟩, 23), (⟨"SpecLoadSched", "reads", "(II)Z"⟩, 23), (⟨"SpecLoadSched", "putForward", "(I)V"⟩, 23), (⟨"SpecLoadSched", "writerBefore", "(II)I"⟩, 23), (⟨"SpecLoadSched", "measure", "()V"⟩, 23), (⟨"SpecLoadSched", "heightOf", "(I)I"⟩, 23), (⟨"SpecLoadSched", "latency", "(I)I"⟩, 23), (⟨"SpecLoadSched", "issueOne", "(I)V"⟩, 23), (⟨"SpecLoadSched", "mayIssue", "(II)Z"⟩, 23), (⟨"SpecLoadSched", "execute", "(I)I"⟩, 23)]
theorem lw_r1 : ∀ q ∈ lw_privs_1, lw_okq q := List.forall_mem_cons.mpr ⟨lw_p0, List.forall_mem_cons.mpr ⟨lw_p1, List.forall_mem_cons.mpr ⟨lw_p2, List.forall_mem_cons.mpr ⟨lw_p3, List.forall_mem_cons.mpr ⟨lw_p4, List.forall_mem_cons.mpr ⟨lw_p5, List.forall_mem_cons.mpr ⟨lw_p6, List.forall_mem_cons.mpr ⟨lw_p7, List.forall_mem_cons.mpr ⟨lw_p8, List.forall_mem_cons.mpr ⟨lw_p9, List.forall_mem_cons.mpr ⟨lw_p10, List.forall_mem_cons.mpr ⟨lw_p11, List.forall_mem_cons.mpr ⟨lw_p12, List.forall_mem_cons.mpr ⟨lw_p13, List.forall_mem_cons.mpr ⟨lw_p14, List.forall_mem_cons.mpr ⟨lw_p15, fun _ h => absurd h List.not_mem_nil⟩⟩⟩⟩⟩⟩⟩⟩⟩⟩⟩⟩⟩⟩⟩⟩
theorem lw_p16 : lw_okq (⟨"SpecLoadSched", "loadEarly", "(I)V"⟩, 23) := ⟨⟨by decide +kernel, by decide +kernel⟩, lw_t1 (List.mem_of_getElem? (i := 4) rfl), lw_t1 (List.mem_of_getElem? (i := 204) rfl), lw_t1 (List.mem_of_getElem? (i := 205) rfl)⟩
theorem lw_p17 : lw_okq (⟨"SpecLoadSched", "faults", "(I)Z"⟩, 23) := ⟨⟨by decide +kernel, by decide +kernel⟩, lw_t1 (List.mem_of_getElem? (i := 4) rfl), lw_t1 (List.mem_of_getElem? (i := 208) rfl), lw_t1 (List.mem_of_getElem? (i := 209) rfl)⟩
theorem lw_p18 : lw_okq (⟨"SpecLoadSched", "watch", "(II)V"⟩, 23) := ⟨⟨by decide +kernel, by decide +kernel⟩, lw_t1 (List.mem_of_getElem? (i := 4) rfl), lw_t1 (List.mem_of_getElem? (i := 212) rfl), lw_t1 (List.mem_of_getElem? (i := 213) rfl)⟩
theorem lw_p19 : lw_okq (⟨"SpecLoadSched", "check", "(I)Z"⟩, 23) := ⟨⟨by decide +kernel, by decide +kernel⟩, lw_t1 (List.mem_of_getElem? (i := 4) rfl), lw_t1 (List.mem_of_getElem? (i := 216) rfl), lw_t1 (List.mem_of_getElem? (i := 217) rfl)⟩
theorem lw_p20 : lw_okq (⟨"SpecLoadSched", "stillWatched", "(II)Z"⟩, 23) := ⟨⟨by decide +kernel, by decide +kernel⟩, lw_t1 (List.mem_of_getElem? (i := 4) rfl), lw_t1 (List.mem_of_getElem? (i := 220) rfl), lw_t1 (List.mem_of_getElem? (i := 221) rfl)⟩
theorem lw_p21 : lw_okq (⟨"SpecLoadSched", "storeAt", "(I)Z"⟩, 23) := ⟨⟨by decide +kernel, by decide +kernel⟩, lw_t1 (List.mem_of_getElem? (i := 4) rfl), lw_t1 (List.mem_of_getElem? (i := 224) rfl), lw_t1 (List.mem_of_getElem? (i := 225) rfl)⟩
theorem lw_p22 : lw_okq (⟨"SpecLoadSched", "stored", "(I)V"⟩, 23) := ⟨⟨by decide +kernel, by decide +kernel⟩, lw_t1 (List.mem_of_getElem? (i := 4) rfl), lw_t1 (List.mem_of_getElem? (i := 228) rfl), lw_t1 (List.mem_of_getElem? (i := 229) rfl)⟩
theorem lw_p23 : lw_okq (⟨"SpecLoadSchedModel", "isRegister", "(I)Z"⟩, 9) := ⟨⟨by decide +kernel, by decide +kernel⟩, lw_t2 (List.mem_of_getElem? (i := 1) rfl), lw_t2 (List.mem_of_getElem? (i := 39) rfl), lw_t2 (List.mem_of_getElem? (i := 40) rfl)⟩
theorem lw_p24 : lw_okq (⟨"SpecLoadSchedModel", "append", "(IIII)I"⟩, 9) := ⟨⟨by decide +kernel, by decide +kernel⟩, lw_t2 (List.mem_of_getElem? (i := 1) rfl), lw_t2 (List.mem_of_getElem? (i := 43) rfl), lw_t2 (List.mem_of_getElem? (i := 44) rfl)⟩
theorem lw_p25 : lw_okq (⟨"SpecLoadSchedModel", "isAddress", "(I)Z"⟩, 9) := ⟨⟨by decide +kernel, by decide +kernel⟩, lw_t2 (List.mem_of_getElem? (i := 1) rfl), lw_t2 (List.mem_of_getElem? (i := 87) rfl), lw_t2 (List.mem_of_getElem? (i := 88) rfl)⟩
theorem lw_p26 : lw_okq (⟨"SpecLoadSchedModel", "execute", "(I)I"⟩, 9) := ⟨⟨by decide +kernel, by decide +kernel⟩, lw_t2 (List.mem_of_getElem? (i := 1) rfl), lw_t2 (List.mem_of_getElem? (i := 103) rfl), lw_t2 (List.mem_of_getElem? (i := 104) rfl)⟩
def lw_privs_2 : List (MethodName × Nat) := [(⟨"SpecLoadSched", "loadEarly", "(I)V"⟩, 23), (⟨"SpecLoadSched", "faults", "(I)Z"⟩, 23), (⟨"SpecLoadSched", "watch", "(II)V"⟩, 23), (⟨"SpecLoadSched", "check", "(I)Z"⟩, 23), (⟨"SpecLoadSched", "stillWatched", "(II)Z"⟩, 23), (⟨"SpecLoadSched", "storeAt", "(I)Z"⟩, 23), (⟨"SpecLoadSched", "stored", "(I)V"⟩, 23), (⟨"SpecLoadSchedModel", "isRegister", "(I)Z"⟩, 9), (⟨"SpecLoadSchedModel", "append", "(IIII)I"⟩, 9), (⟨"SpecLoadSchedModel", "isAddress", "(I)Z"⟩, 9), (⟨"SpecLoadSchedModel", "execute", "(I)I"⟩, 9)]
theorem lw_r2 : ∀ q ∈ lw_privs_2, lw_okq q := List.forall_mem_cons.mpr ⟨lw_p16, List.forall_mem_cons.mpr ⟨lw_p17, List.forall_mem_cons.mpr ⟨lw_p18, List.forall_mem_cons.mpr ⟨lw_p19, List.forall_mem_cons.mpr ⟨lw_p20, List.forall_mem_cons.mpr ⟨lw_p21, List.forall_mem_cons.mpr ⟨lw_p22, List.forall_mem_cons.mpr ⟨lw_p23, List.forall_mem_cons.mpr ⟨lw_p24, List.forall_mem_cons.mpr ⟨lw_p25, List.forall_mem_cons.mpr ⟨lw_p26, fun _ h => absurd h List.not_mem_nil⟩⟩⟩⟩⟩⟩⟩⟩⟩⟩⟩
def lw_privs : List (MethodName × Nat) := lw_privs_1 ++ (lw_privs_2)
def lw_tbl : List Cond := k2_sels lw_privs ++ tables_1
theorem lw_privs_ok : ∀ q ∈ lw_privs, lw_okq q := by
  show ∀ q ∈ lw_privs_1 ++ (lw_privs_2), lw_okq q
  exact List.forall_mem_append.mpr ⟨lw_r1, lw_r2⟩
-- ===== ONE list of words for every method: the tables' words that hold all through a run =====
def lw_all : List Cond := lw_tbl.filter goodWord
/-- a word of the tables by its place: claim/WORDS.tsv -/
theorem lw_w {w : Cond} (i : Nat) (h : lw_tbl[i]? = some w) (g : goodWord w = true) : w ∈ lw_all := List.mem_filter.mpr ⟨List.mem_of_getElem? h, g⟩
theorem lw_all_tbl {w : Cond} (h : w ∈ lw_all) : w ∈ lw_tbl := (List.mem_filter.mp h).1
theorem lw_self : GoodIn lw_all lw_all := fun w h => ⟨h, good_of_word (List.mem_filter.mp h).2⟩
/-- a class's field words, by their places -/
theorem lw_in (ws : List Cond) (ps : List Nat) (hp : ws = ps.filterMap (fun i => lw_tbl[i]?)) (hg : ws.all goodWord = true) : ∀ w ∈ ws, w ∈ lw_all := by
  intro w h
  have h1 := List.all_eq_true.mp hg w h
  rw [hp] at h
  obtain ⟨i, -, hi⟩ := List.mem_filterMap.mp h
  exact lw_w i hi h1
/-- the words of a contract for the method y with code b, L locals, answer r -/
abbrev ws_ (y : MethodName) (b : ByteArray) (L : Nat) (r : Option FieldType) : List Cond := Cond.code y b L r :: lw_all
theorem lw_meth {y : MethodName} {b : ByteArray} {L : Nat} {r : Option FieldType} (h : Cond.code y b L r ∈ lw_all) : GoodIn lw_all (ws_ y b L r) := by
  intro w hw
  rcases List.mem_cons.mp hw with e | e
  · rw [e]
    exact lw_self _ h
  · exact lw_self _ e
theorem lw_app {a c : List Cond} (ha : ∀ w ∈ a, w ∈ lw_all) (hc : GoodIn lw_all c) : GoodIn lw_all (a ++ c) := by
  intro w hw
  rcases List.mem_append.mp hw with e | e
  · exact lw_self w (ha w e)
  · exact hc w e
/-- what a call through an object asks: cwV n hts (lw_V ..) -/
theorem lw_V {own : String} {idx : Nat} {C : String} {y : MethodName} {b : ByteArray} {L : Nat} {r : Option FieldType} (h1 : Cond.methodLink own idx y ∈ lw_all) (h2 : Cond.instanceMethod y ∈ lw_all) (h3 : Cond.selects C y y ∈ lw_all) (h4 : Cond.initialized C ∈ lw_all) (h5 : Cond.code y b L r ∈ lw_all) : GoodIn lw_all (wsV own idx C y (ws_ y b L r)) := by
  refine lw_app ?_ (lw_meth h5)
  intro w hw
  simp only [List.mem_cons, List.not_mem_nil, or_false] at hw
  rcases hw with e | e | e | e
  · rw [e]; exact h1
  · rw [e]; exact h2
  · rw [e]; exact h3
  · rw [e]; exact h4
/-- what a static call asks: va_cwS n hts (lw_S ..) -/
theorem lw_S {own : String} {idx : Nat} {y : MethodName} {b : ByteArray} {L : Nat} {r : Option FieldType} (h1 : Cond.methodLink own idx y ∈ lw_all) (h2 : Cond.static y ∈ lw_all) (h3 : Cond.initialized y.cls ∈ lw_all) (h4 : Cond.code y b L r ∈ lw_all) : GoodIn lw_all (va_wsS own idx y (ws_ y b L r)) := by
  refine lw_app ?_ (lw_meth h4)
  intro w hw
  simp only [List.mem_cons, List.not_mem_nil, or_false] at hw
  rcases hw with e | e | e
  · rw [e]; exact h1
  · rw [e]; exact h2
  · rw [e]; exact h3
/-- the words of a contract for a method WITH HANDLERS (hh: its table) -/
abbrev wsW_ (y : MethodName) (b : ByteArray) (L : Nat) (r : Option FieldType) (hh : List (Nat × Nat × Nat × Nat)) : List Cond := Cond.codeWith y b L r hh :: lw_all
theorem lw_methW {y : MethodName} {b : ByteArray} {L : Nat} {r : Option FieldType} {hh : List (Nat × Nat × Nat × Nat)} (h : Cond.codeWith y b L r hh ∈ lw_all) : GoodIn lw_all (wsW_ y b L r hh) := by
  intro w hw
  rcases List.mem_cons.mp hw with e | e
  · rw [e]
    exact lw_self _ h
  · exact lw_self _ e
/-- any list of words by their places (lw_in), good -/
theorem lw_good {ws : List Cond} (h : ∀ w ∈ ws, w ∈ lw_all) : GoodIn lw_all ws := fun w hw => lw_self w (h w hw)
/-- what a call of a method with handlers asks: vx_cwVW n hts (lw_VW ..), vx_cwSW n hts (lw_SW ..) -/
theorem lw_VW {own : String} {idx : Nat} {C : String} {y : MethodName} {b : ByteArray} {L : Nat} {r : Option FieldType} {hh : List (Nat × Nat × Nat × Nat)} (h1 : Cond.methodLink own idx y ∈ lw_all) (h2 : Cond.instanceMethod y ∈ lw_all) (h3 : Cond.selects C y y ∈ lw_all) (h4 : Cond.initialized C ∈ lw_all) (h5 : Cond.codeWith y b L r hh ∈ lw_all) : GoodIn lw_all (wsV own idx C y (wsW_ y b L r hh)) := by
  refine lw_app ?_ (lw_methW h5)
  intro w hw
  simp only [List.mem_cons, List.not_mem_nil, or_false] at hw
  rcases hw with e | e | e | e
  · rw [e]; exact h1
  · rw [e]; exact h2
  · rw [e]; exact h3
  · rw [e]; exact h4
theorem lw_SW {own : String} {idx : Nat} {y : MethodName} {b : ByteArray} {L : Nat} {r : Option FieldType} {hh : List (Nat × Nat × Nat × Nat)} (h1 : Cond.methodLink own idx y ∈ lw_all) (h2 : Cond.static y ∈ lw_all) (h3 : Cond.initialized y.cls ∈ lw_all) (h4 : Cond.codeWith y b L r hh ∈ lw_all) : GoodIn lw_all (va_wsS own idx y (wsW_ y b L r hh)) := by
  refine lw_app ?_ (lw_methW h4)
  intro w hw
  simp only [List.mem_cons, List.not_mem_nil, or_false] at hw
  rcases hw with e | e | e
  · rw [e]; exact h1
  · rw [e]; exact h2
  · rw [e]; exact h3
/-- a word by its place in its run of the tables -/
theorem lw_at {r : List Cond} (hr : ∀ w ∈ r, w ∈ lw_tbl) {w : Cond} (i : Nat) (h : r[i]? = some w) : w ∈ lw_tbl := hr w (List.mem_of_getElem? h)
theorem lw_g {w : Cond} (h : w ∈ lw_tbl) (g : goodWord w = true) : w ∈ lw_all := List.mem_filter.mpr ⟨h, g⟩
theorem lw_ms : ∀ w ∈ k2_sels lw_privs, w ∈ lw_tbl := fun w h => show w ∈ k2_sels lw_privs ++ tables_1 from List.mem_append_left _ h
theorem lw_m1 : ∀ w ∈ tables_1_1, w ∈ lw_tbl := fun w h => show w ∈ k2_sels lw_privs ++ tables_1 from List.mem_append_right (k2_sels lw_privs) (show w ∈ tables_1 from List.mem_append_left _ h)
theorem lw_m2 : ∀ w ∈ tables_1_2, w ∈ lw_tbl := fun w h => show w ∈ k2_sels lw_privs ++ tables_1 from List.mem_append_right (k2_sels lw_privs) (show w ∈ tables_1 from List.mem_append_right _ h)
theorem qs0 : (Cond.selects "SpecLoadSched" ⟨"SpecLoadSched", "badReg", "(I)Z"⟩ ⟨"SpecLoadSched", "badReg", "(I)Z"⟩) ∈ lw_all := lw_g (lw_at lw_ms 0 rfl) rfl
theorem qs1 : (Cond.selects "SpecLoadSched" ⟨"SpecLoadSched", "append", "(IIIII)I"⟩ ⟨"SpecLoadSched", "append", "(IIIII)I"⟩) ∈ lw_all := lw_g (lw_at lw_ms 1 rfl) rfl
theorem qs2 : (Cond.selects "SpecLoadSched" ⟨"SpecLoadSched", "badAddress", "(I)Z"⟩ ⟨"SpecLoadSched", "badAddress", "(I)Z"⟩) ∈ lw_all := lw_g (lw_at lw_ms 2 rfl) rfl
theorem qs3 : (Cond.selects "SpecLoadSched" ⟨"SpecLoadSched", "schedule", "()V"⟩ ⟨"SpecLoadSched", "schedule", "()V"⟩) ∈ lw_all := lw_g (lw_at lw_ms 3 rfl) rfl
theorem qs4 : (Cond.selects "SpecLoadSched" ⟨"SpecLoadSched", "orderAll", "()V"⟩ ⟨"SpecLoadSched", "orderAll", "()V"⟩) ∈ lw_all := lw_g (lw_at lw_ms 4 rfl) rfl
theorem qs5 : (Cond.selects "SpecLoadSched" ⟨"SpecLoadSched", "behind", "(II)Z"⟩ ⟨"SpecLoadSched", "behind", "(II)Z"⟩) ∈ lw_all := lw_g (lw_at lw_ms 5 rfl) rfl
theorem qs6 : (Cond.selects "SpecLoadSched" ⟨"SpecLoadSched", "fence", "(I)Z"⟩ ⟨"SpecLoadSched", "fence", "(I)Z"⟩) ∈ lw_all := lw_g (lw_at lw_ms 6 rfl) rfl
theorem qs7 : (Cond.selects "SpecLoadSched" ⟨"SpecLoadSched", "reads", "(II)Z"⟩ ⟨"SpecLoadSched", "reads", "(II)Z"⟩) ∈ lw_all := lw_g (lw_at lw_ms 7 rfl) rfl
theorem qs8 : (Cond.selects "SpecLoadSched" ⟨"SpecLoadSched", "putForward", "(I)V"⟩ ⟨"SpecLoadSched", "putForward", "(I)V"⟩) ∈ lw_all := lw_g (lw_at lw_ms 8 rfl) rfl
theorem qs9 : (Cond.selects "SpecLoadSched" ⟨"SpecLoadSched", "writerBefore", "(II)I"⟩ ⟨"SpecLoadSched", "writerBefore", "(II)I"⟩) ∈ lw_all := lw_g (lw_at lw_ms 9 rfl) rfl
theorem qs10 : (Cond.selects "SpecLoadSched" ⟨"SpecLoadSched", "measure", "()V"⟩ ⟨"SpecLoadSched", "measure", "()V"⟩) ∈ lw_all := lw_g (lw_at lw_ms 10 rfl) rfl
theorem qs11 : (Cond.selects "SpecLoadSched" ⟨"SpecLoadSched", "heightOf", "(I)I"⟩ ⟨"SpecLoadSched", "heightOf", "(I)I"⟩) ∈ lw_all := lw_g (lw_at lw_ms 11 rfl) rfl
theorem qs12 : (Cond.selects "SpecLoadSched" ⟨"SpecLoadSched", "latency", "(I)I"⟩ ⟨"SpecLoadSched", "latency", "(I)I"⟩) ∈ lw_all := lw_g (lw_at lw_ms 12 rfl) rfl
theorem qs13 : (Cond.selects "SpecLoadSched" ⟨"SpecLoadSched", "issueOne", "(I)V"⟩ ⟨"SpecLoadSched", "issueOne", "(I)V"⟩) ∈ lw_all := lw_g (lw_at lw_ms 13 rfl) rfl
theorem qs14 : (Cond.selects "SpecLoadSched" ⟨"SpecLoadSched", "mayIssue", "(II)Z"⟩ ⟨"SpecLoadSched", "mayIssue", "(II)Z"⟩) ∈ lw_all := lw_g (lw_at lw_ms 14 rfl) rfl
theorem qs15 : (Cond.selects "SpecLoadSched" ⟨"SpecLoadSched", "execute", "(I)I"⟩ ⟨"SpecLoadSched", "execute", "(I)I"⟩) ∈ lw_all := lw_g (lw_at lw_ms 15 rfl) rfl
theorem qs16 : (Cond.selects "SpecLoadSched" ⟨"SpecLoadSched", "loadEarly", "(I)V"⟩ ⟨"SpecLoadSched", "loadEarly", "(I)V"⟩) ∈ lw_all := lw_g (lw_at lw_ms 16 rfl) rfl
theorem qs17 : (Cond.selects "SpecLoadSched" ⟨"SpecLoadSched", "faults", "(I)Z"⟩ ⟨"SpecLoadSched", "faults", "(I)Z"⟩) ∈ lw_all := lw_g (lw_at lw_ms 17 rfl) rfl
theorem qs18 : (Cond.selects "SpecLoadSched" ⟨"SpecLoadSched", "watch", "(II)V"⟩ ⟨"SpecLoadSched", "watch", "(II)V"⟩) ∈ lw_all := lw_g (lw_at lw_ms 18 rfl) rfl
theorem qs19 : (Cond.selects "SpecLoadSched" ⟨"SpecLoadSched", "check", "(I)Z"⟩ ⟨"SpecLoadSched", "check", "(I)Z"⟩) ∈ lw_all := lw_g (lw_at lw_ms 19 rfl) rfl
theorem qs20 : (Cond.selects "SpecLoadSched" ⟨"SpecLoadSched", "stillWatched", "(II)Z"⟩ ⟨"SpecLoadSched", "stillWatched", "(II)Z"⟩) ∈ lw_all := lw_g (lw_at lw_ms 20 rfl) rfl
theorem qs21 : (Cond.selects "SpecLoadSched" ⟨"SpecLoadSched", "storeAt", "(I)Z"⟩ ⟨"SpecLoadSched", "storeAt", "(I)Z"⟩) ∈ lw_all := lw_g (lw_at lw_ms 21 rfl) rfl
theorem qs22 : (Cond.selects "SpecLoadSched" ⟨"SpecLoadSched", "stored", "(I)V"⟩ ⟨"SpecLoadSched", "stored", "(I)V"⟩) ∈ lw_all := lw_g (lw_at lw_ms 22 rfl) rfl
theorem qs23 : (Cond.selects "SpecLoadSchedModel" ⟨"SpecLoadSchedModel", "isRegister", "(I)Z"⟩ ⟨"SpecLoadSchedModel", "isRegister", "(I)Z"⟩) ∈ lw_all := lw_g (lw_at lw_ms 23 rfl) rfl
theorem qs24 : (Cond.selects "SpecLoadSchedModel" ⟨"SpecLoadSchedModel", "append", "(IIII)I"⟩ ⟨"SpecLoadSchedModel", "append", "(IIII)I"⟩) ∈ lw_all := lw_g (lw_at lw_ms 24 rfl) rfl
theorem qs25 : (Cond.selects "SpecLoadSchedModel" ⟨"SpecLoadSchedModel", "isAddress", "(I)Z"⟩ ⟨"SpecLoadSchedModel", "isAddress", "(I)Z"⟩) ∈ lw_all := lw_g (lw_at lw_ms 25 rfl) rfl
theorem qs26 : (Cond.selects "SpecLoadSchedModel" ⟨"SpecLoadSchedModel", "execute", "(I)I"⟩ ⟨"SpecLoadSchedModel", "execute", "(I)I"⟩) ∈ lw_all := lw_g (lw_at lw_ms 26 rfl) rfl
end
section
/-! SpecLoadSched -/
set_option maxRecDepth 100000
def RX0 : String := "SpecLoadSched"
def TX0 : u_T := fun k => match k with
  | 0 => ("SpecLoadSched", "count", "I", false)
  | 1 => ("SpecLoadSched", "op", "[I", true)
  | 2 => ("SpecLoadSched", "dest", "[I", true)
  | 3 => ("SpecLoadSched", "left", "[I", true)
  | 4 => ("SpecLoadSched", "right", "[I", true)
  | 5 => ("SpecLoadSched", "value", "[I", true)
  | 6 => ("SpecLoadSched", "reg", "[I", true)
  | 7 => ("SpecLoadSched", "mem", "[I", true)
  | 8 => ("SpecLoadSched", "barred", "[Z", true)
  | 9 => ("SpecLoadSched", "lastEnd", "I", false)
  | 10 => ("SpecLoadSched", "ready", "Z", false)
  | 11 => ("SpecLoadSched", "used", "[Z", true)
  | 12 => ("SpecLoadSched", "before", "[I", true)
  | 13 => ("SpecLoadSched", "height", "[I", true)
  | 14 => ("SpecLoadSched", "issuedAt", "[I", true)
  | 15 => ("SpecLoadSched", "length", "I", false)
  | 16 => ("SpecLoadSched", "order", "[I", true)
  | 17 => ("SpecLoadSched", "source", "[I", true)
  | 18 => ("SpecLoadSched", "early", "[I", true)
  | 19 => ("SpecLoadSched", "sound", "[Z", true)
  | 20 => ("SpecLoadSched", "victim", "I", false)
  | 21 => ("SpecLoadSched", "watchedLoad", "[I", true)
  | _ => ("SpecLoadSched", "watchedAt", "[I", true)
def tyX0 : Nat → FieldType := fun k => match k with
  | 0 => .int
  | 1 => .array .int
  | 2 => .array .int
  | 3 => .array .int
  | 4 => .array .int
  | 5 => .array .int
  | 6 => .array .int
  | 7 => .array .int
  | 8 => .array .boolean
  | 9 => .int
  | 10 => .boolean
  | 11 => .array .boolean
  | 12 => .array .int
  | 13 => .array .int
  | 14 => .array .int
  | 15 => .int
  | 16 => .array .int
  | 17 => .array .int
  | 18 => .array .int
  | 19 => .array .boolean
  | 20 => .int
  | 21 => .array .int
  | _ => .array .int
abbrev wsX00 : List Cond := u_ws RX0 TX0 23
set_option maxRecDepth 100000 in
theorem nmX0 : ∀ a, a < 23 → ∀ b, b < 23 → a ≠ b → (TX0 a).2.1 ≠ (TX0 b).2.1 := by decide +kernel
set_option maxRecDepth 100000 in
theorem tyX0_ok : ∀ k, k < 23 → parseFieldDescriptor (TX0 k).2.2.1 = some (tyX0 k) := by decide +kernel
abbrev cX0_init : ByteArray := prog_1_method_1_code
def yX0_init : MethodName := ⟨RX0, "<init>", "()V"⟩
theorem dX0_init_0 : decode cX0_init 0 = .ok (.aload_n 0, 1) := by decide +kernel
theorem dX0_init_1 : decode cX0_init 1 = .ok (.invokespecial 1, 3) := by decide +kernel
theorem dX0_init_4 : decode cX0_init 4 = .ok (.aload_n 0, 1) := by decide +kernel
theorem dX0_init_5 : decode cX0_init 5 = .ok (.bipush 14, 2) := by decide +kernel
theorem dX0_init_7 : decode cX0_init 7 = .ok (.newarray .int, 2) := by decide +kernel
theorem dX0_init_9 : decode cX0_init 9 = .ok (.putfield 7, 3) := by decide +kernel
theorem dX0_init_12 : decode cX0_init 12 = .ok (.aload_n 0, 1) := by decide +kernel
theorem dX0_init_13 : decode cX0_init 13 = .ok (.bipush 14, 2) := by decide +kernel
theorem dX0_init_15 : decode cX0_init 15 = .ok (.newarray .int, 2) := by decide +kernel
theorem dX0_init_17 : decode cX0_init 17 = .ok (.putfield 13, 3) := by decide +kernel
theorem dX0_init_20 : decode cX0_init 20 = .ok (.aload_n 0, 1) := by decide +kernel
theorem dX0_init_21 : decode cX0_init 21 = .ok (.bipush 14, 2) := by decide +kernel
theorem dX0_init_23 : decode cX0_init 23 = .ok (.newarray .int, 2) := by decide +kernel
theorem dX0_init_25 : decode cX0_init 25 = .ok (.putfield 16, 3) := by decide +kernel
theorem dX0_init_28 : decode cX0_init 28 = .ok (.aload_n 0, 1) := by decide +kernel
theorem dX0_init_29 : decode cX0_init 29 = .ok (.bipush 14, 2) := by decide +kernel
theorem dX0_init_31 : decode cX0_init 31 = .ok (.newarray .int, 2) := by decide +kernel
theorem dX0_init_33 : decode cX0_init 33 = .ok (.putfield 19, 3) := by decide +kernel
theorem dX0_init_36 : decode cX0_init 36 = .ok (.aload_n 0, 1) := by decide +kernel
theorem dX0_init_37 : decode cX0_init 37 = .ok (.bipush 14, 2) := by decide +kernel
theorem dX0_init_39 : decode cX0_init 39 = .ok (.newarray .int, 2) := by decide +kernel
theorem dX0_init_41 : decode cX0_init 41 = .ok (.putfield 22, 3) := by decide +kernel
theorem dX0_init_44 : decode cX0_init 44 = .ok (.aload_n 0, 1) := by decide +kernel
theorem dX0_init_45 : decode cX0_init 45 = .ok (.bipush 8, 2) := by decide +kernel
theorem dX0_init_47 : decode cX0_init 47 = .ok (.newarray .int, 2) := by decide +kernel
theorem dX0_init_49 : decode cX0_init 49 = .ok (.putfield 25, 3) := by decide +kernel
theorem dX0_init_52 : decode cX0_init 52 = .ok (.aload_n 0, 1) := by decide +kernel
theorem dX0_init_53 : decode cX0_init 53 = .ok (.bipush 16, 2) := by decide +kernel
theorem dX0_init_55 : decode cX0_init 55 = .ok (.newarray .int, 2) := by decide +kernel
theorem dX0_init_57 : decode cX0_init 57 = .ok (.putfield 28, 3) := by decide +kernel
theorem dX0_init_60 : decode cX0_init 60 = .ok (.aload_n 0, 1) := by decide +kernel
theorem dX0_init_61 : decode cX0_init 61 = .ok (.bipush 16, 2) := by decide +kernel
theorem dX0_init_63 : decode cX0_init 63 = .ok (.newarray .boolean, 2) := by decide +kernel
theorem dX0_init_65 : decode cX0_init 65 = .ok (.putfield 31, 3) := by decide +kernel
theorem dX0_init_68 : decode cX0_init 68 = .ok (.aload_n 0, 1) := by decide +kernel
theorem dX0_init_69 : decode cX0_init 69 = .ok (.bipush 28, 2) := by decide +kernel
theorem dX0_init_71 : decode cX0_init 71 = .ok (.newarray .boolean, 2) := by decide +kernel
theorem dX0_init_73 : decode cX0_init 73 = .ok (.putfield 35, 3) := by decide +kernel
theorem dX0_init_76 : decode cX0_init 76 = .ok (.aload_n 0, 1) := by decide +kernel
theorem dX0_init_77 : decode cX0_init 77 = .ok (.bipush 28, 2) := by decide +kernel
theorem dX0_init_79 : decode cX0_init 79 = .ok (.newarray .int, 2) := by decide +kernel
theorem dX0_init_81 : decode cX0_init 81 = .ok (.putfield 38, 3) := by decide +kernel
theorem dX0_init_84 : decode cX0_init 84 = .ok (.aload_n 0, 1) := by decide +kernel
theorem dX0_init_85 : decode cX0_init 85 = .ok (.bipush 28, 2) := by decide +kernel
theorem dX0_init_87 : decode cX0_init 87 = .ok (.newarray .int, 2) := by decide +kernel
theorem dX0_init_89 : decode cX0_init 89 = .ok (.putfield 41, 3) := by decide +kernel
theorem dX0_init_92 : decode cX0_init 92 = .ok (.aload_n 0, 1) := by decide +kernel
theorem dX0_init_93 : decode cX0_init 93 = .ok (.bipush 28, 2) := by decide +kernel
theorem dX0_init_95 : decode cX0_init 95 = .ok (.newarray .int, 2) := by decide +kernel
theorem dX0_init_97 : decode cX0_init 97 = .ok (.putfield 44, 3) := by decide +kernel
theorem dX0_init_100 : decode cX0_init 100 = .ok (.aload_n 0, 1) := by decide +kernel
theorem dX0_init_101 : decode cX0_init 101 = .ok (.bipush 28, 2) := by decide +kernel
theorem dX0_init_103 : decode cX0_init 103 = .ok (.newarray .int, 2) := by decide +kernel
theorem dX0_init_105 : decode cX0_init 105 = .ok (.putfield 47, 3) := by decide +kernel
theorem dX0_init_108 : decode cX0_init 108 = .ok (.aload_n 0, 1) := by decide +kernel
theorem dX0_init_109 : decode cX0_init 109 = .ok (.bipush 14, 2) := by decide +kernel
theorem dX0_init_111 : decode cX0_init 111 = .ok (.newarray .int, 2) := by decide +kernel
theorem dX0_init_113 : decode cX0_init 113 = .ok (.putfield 50, 3) := by decide +kernel
theorem dX0_init_116 : decode cX0_init 116 = .ok (.aload_n 0, 1) := by decide +kernel
theorem dX0_init_117 : decode cX0_init 117 = .ok (.bipush 14, 2) := by decide +kernel
theorem dX0_init_119 : decode cX0_init 119 = .ok (.newarray .int, 2) := by decide +kernel
theorem dX0_init_121 : decode cX0_init 121 = .ok (.putfield 53, 3) := by decide +kernel
theorem dX0_init_124 : decode cX0_init 124 = .ok (.aload_n 0, 1) := by decide +kernel
theorem dX0_init_125 : decode cX0_init 125 = .ok (.bipush 14, 2) := by decide +kernel
theorem dX0_init_127 : decode cX0_init 127 = .ok (.newarray .boolean, 2) := by decide +kernel
theorem dX0_init_129 : decode cX0_init 129 = .ok (.putfield 56, 3) := by decide +kernel
theorem dX0_init_132 : decode cX0_init 132 = .ok (.aload_n 0, 1) := by decide +kernel
theorem dX0_init_133 : decode cX0_init 133 = .ok (.iconst 4, 1) := by decide +kernel
theorem dX0_init_134 : decode cX0_init 134 = .ok (.newarray .int, 2) := by decide +kernel
theorem dX0_init_136 : decode cX0_init 136 = .ok (.putfield 59, 3) := by decide +kernel
theorem dX0_init_139 : decode cX0_init 139 = .ok (.aload_n 0, 1) := by decide +kernel
theorem dX0_init_140 : decode cX0_init 140 = .ok (.iconst 4, 1) := by decide +kernel
theorem dX0_init_141 : decode cX0_init 141 = .ok (.newarray .int, 2) := by decide +kernel
theorem dX0_init_143 : decode cX0_init 143 = .ok (.putfield 62, 3) := by decide +kernel
theorem dX0_init_146 : decode cX0_init 146 = .ok (.aload_n 0, 1) := by decide +kernel
theorem dX0_init_147 : decode cX0_init 147 = .ok (.iconst (-1), 1) := by decide +kernel
theorem dX0_init_148 : decode cX0_init 148 = .ok (.putfield 65, 3) := by decide +kernel
theorem dX0_init_151 : decode cX0_init 151 = .ok (.return_, 1) := by decide +kernel
abbrev cX0_constant : ByteArray := prog_1_method_4_code
def yX0_constant : MethodName := ⟨RX0, "constant", "(II)I"⟩
theorem dX0_constant_0 : decode cX0_constant 0 = .ok (.aload_n 0, 1) := by decide +kernel
theorem dX0_constant_1 : decode cX0_constant 1 = .ok (.iload_n 1, 1) := by decide +kernel
theorem dX0_constant_2 : decode cX0_constant 2 = .ok (.invokevirtual 76, 3) := by decide +kernel
theorem dX0_constant_5 : decode cX0_constant 5 = .ok (.ifCond .eq 5, 3) := by decide +kernel
theorem dX0_constant_8 : decode cX0_constant 8 = .ok (.iconst (-1), 1) := by decide +kernel
theorem dX0_constant_9 : decode cX0_constant 9 = .ok (.ireturn, 1) := by decide +kernel
theorem dX0_constant_10 : decode cX0_constant 10 = .ok (.aload_n 0, 1) := by decide +kernel
theorem dX0_constant_11 : decode cX0_constant 11 = .ok (.iconst 0, 1) := by decide +kernel
theorem dX0_constant_12 : decode cX0_constant 12 = .ok (.iload_n 1, 1) := by decide +kernel
theorem dX0_constant_13 : decode cX0_constant 13 = .ok (.iconst (-1), 1) := by decide +kernel
theorem dX0_constant_14 : decode cX0_constant 14 = .ok (.iconst (-1), 1) := by decide +kernel
theorem dX0_constant_15 : decode cX0_constant 15 = .ok (.iload_n 2, 1) := by decide +kernel
theorem dX0_constant_16 : decode cX0_constant 16 = .ok (.invokevirtual 80, 3) := by decide +kernel
theorem dX0_constant_19 : decode cX0_constant 19 = .ok (.ireturn, 1) := by decide +kernel
abbrev cX0_badReg : ByteArray := prog_1_method_2_code
def yX0_badReg : MethodName := ⟨RX0, "badReg", "(I)Z"⟩
theorem dX0_badReg_0 : decode cX0_badReg 0 = .ok (.iload_n 1, 1) := by decide +kernel
theorem dX0_badReg_1 : decode cX0_badReg 1 = .ok (.ifCond .lt 9, 3) := by decide +kernel
theorem dX0_badReg_4 : decode cX0_badReg 4 = .ok (.iload_n 1, 1) := by decide +kernel
theorem dX0_badReg_5 : decode cX0_badReg 5 = .ok (.bipush 7, 2) := by decide +kernel
theorem dX0_badReg_7 : decode cX0_badReg 7 = .ok (.if_icmp .le 7, 3) := by decide +kernel
theorem dX0_badReg_10 : decode cX0_badReg 10 = .ok (.iconst 1, 1) := by decide +kernel
theorem dX0_badReg_11 : decode cX0_badReg 11 = .ok (.goto 4, 3) := by decide +kernel
theorem dX0_badReg_14 : decode cX0_badReg 14 = .ok (.iconst 0, 1) := by decide +kernel
theorem dX0_badReg_15 : decode cX0_badReg 15 = .ok (.ireturn, 1) := by decide +kernel
abbrev cX0_append : ByteArray := prog_1_method_3_code
def yX0_append : MethodName := ⟨RX0, "append", "(IIIII)I"⟩
theorem dX0_append_0 : decode cX0_append 0 = .ok (.aload_n 0, 1) := by decide +kernel
theorem dX0_append_1 : decode cX0_append 1 = .ok (.getfield 69, 3) := by decide +kernel
theorem dX0_append_4 : decode cX0_append 4 = .ok (.bipush 14, 2) := by decide +kernel
theorem dX0_append_6 : decode cX0_append 6 = .ok (.if_icmp .ne 6, 3) := by decide +kernel
theorem dX0_append_9 : decode cX0_append 9 = .ok (.bipush (-2), 2) := by decide +kernel
theorem dX0_append_11 : decode cX0_append 11 = .ok (.ireturn, 1) := by decide +kernel
theorem dX0_append_12 : decode cX0_append 12 = .ok (.aload_n 0, 1) := by decide +kernel
theorem dX0_append_13 : decode cX0_append 13 = .ok (.getfield 7, 3) := by decide +kernel
theorem dX0_append_16 : decode cX0_append 16 = .ok (.aload_n 0, 1) := by decide +kernel
theorem dX0_append_17 : decode cX0_append 17 = .ok (.getfield 69, 3) := by decide +kernel
theorem dX0_append_20 : decode cX0_append 20 = .ok (.iload_n 1, 1) := by decide +kernel
theorem dX0_append_21 : decode cX0_append 21 = .ok (.iastore, 1) := by decide +kernel
theorem dX0_append_22 : decode cX0_append 22 = .ok (.aload_n 0, 1) := by decide +kernel
theorem dX0_append_23 : decode cX0_append 23 = .ok (.getfield 13, 3) := by decide +kernel
theorem dX0_append_26 : decode cX0_append 26 = .ok (.aload_n 0, 1) := by decide +kernel
theorem dX0_append_27 : decode cX0_append 27 = .ok (.getfield 69, 3) := by decide +kernel
theorem dX0_append_30 : decode cX0_append 30 = .ok (.iload_n 2, 1) := by decide +kernel
theorem dX0_append_31 : decode cX0_append 31 = .ok (.iastore, 1) := by decide +kernel
theorem dX0_append_32 : decode cX0_append 32 = .ok (.aload_n 0, 1) := by decide +kernel
theorem dX0_append_33 : decode cX0_append 33 = .ok (.getfield 16, 3) := by decide +kernel
theorem dX0_append_36 : decode cX0_append 36 = .ok (.aload_n 0, 1) := by decide +kernel
theorem dX0_append_37 : decode cX0_append 37 = .ok (.getfield 69, 3) := by decide +kernel
theorem dX0_append_40 : decode cX0_append 40 = .ok (.iload_n 3, 1) := by decide +kernel
theorem dX0_append_41 : decode cX0_append 41 = .ok (.iastore, 1) := by decide +kernel
theorem dX0_append_42 : decode cX0_append 42 = .ok (.aload_n 0, 1) := by decide +kernel
theorem dX0_append_43 : decode cX0_append 43 = .ok (.getfield 19, 3) := by decide +kernel
theorem dX0_append_46 : decode cX0_append 46 = .ok (.aload_n 0, 1) := by decide +kernel
theorem dX0_append_47 : decode cX0_append 47 = .ok (.getfield 69, 3) := by decide +kernel
theorem dX0_append_50 : decode cX0_append 50 = .ok (.iload 4, 2) := by decide +kernel
theorem dX0_append_52 : decode cX0_append 52 = .ok (.iastore, 1) := by decide +kernel
theorem dX0_append_53 : decode cX0_append 53 = .ok (.aload_n 0, 1) := by decide +kernel
theorem dX0_append_54 : decode cX0_append 54 = .ok (.getfield 22, 3) := by decide +kernel
theorem dX0_append_57 : decode cX0_append 57 = .ok (.aload_n 0, 1) := by decide +kernel
theorem dX0_append_58 : decode cX0_append 58 = .ok (.getfield 69, 3) := by decide +kernel
theorem dX0_append_61 : decode cX0_append 61 = .ok (.iload 5, 2) := by decide +kernel
theorem dX0_append_63 : decode cX0_append 63 = .ok (.iastore, 1) := by decide +kernel
theorem dX0_append_64 : decode cX0_append 64 = .ok (.aload_n 0, 1) := by decide +kernel
theorem dX0_append_65 : decode cX0_append 65 = .ok (.dup, 1) := by decide +kernel
theorem dX0_append_66 : decode cX0_append 66 = .ok (.getfield 69, 3) := by decide +kernel
theorem dX0_append_69 : decode cX0_append 69 = .ok (.iconst 1, 1) := by decide +kernel
theorem dX0_append_70 : decode cX0_append 70 = .ok (.iadd, 1) := by decide +kernel
theorem dX0_append_71 : decode cX0_append 71 = .ok (.putfield 69, 3) := by decide +kernel
theorem dX0_append_74 : decode cX0_append 74 = .ok (.aload_n 0, 1) := by decide +kernel
theorem dX0_append_75 : decode cX0_append 75 = .ok (.iconst 0, 1) := by decide +kernel
theorem dX0_append_76 : decode cX0_append 76 = .ok (.putfield 72, 3) := by decide +kernel
theorem dX0_append_79 : decode cX0_append 79 = .ok (.aload_n 0, 1) := by decide +kernel
theorem dX0_append_80 : decode cX0_append 80 = .ok (.getfield 69, 3) := by decide +kernel
theorem dX0_append_83 : decode cX0_append 83 = .ok (.iconst 1, 1) := by decide +kernel
theorem dX0_append_84 : decode cX0_append 84 = .ok (.isub, 1) := by decide +kernel
theorem dX0_append_85 : decode cX0_append 85 = .ok (.ireturn, 1) := by decide +kernel
abbrev cX0_add : ByteArray := prog_1_method_5_code
def yX0_add : MethodName := ⟨RX0, "add", "(III)I"⟩
theorem dX0_add_0 : decode cX0_add 0 = .ok (.aload_n 0, 1) := by decide +kernel
theorem dX0_add_1 : decode cX0_add 1 = .ok (.iload_n 1, 1) := by decide +kernel
theorem dX0_add_2 : decode cX0_add 2 = .ok (.invokevirtual 76, 3) := by decide +kernel
theorem dX0_add_5 : decode cX0_add 5 = .ok (.ifCond .ne 19, 3) := by decide +kernel
theorem dX0_add_8 : decode cX0_add 8 = .ok (.aload_n 0, 1) := by decide +kernel
theorem dX0_add_9 : decode cX0_add 9 = .ok (.iload_n 2, 1) := by decide +kernel
theorem dX0_add_10 : decode cX0_add 10 = .ok (.invokevirtual 76, 3) := by decide +kernel
theorem dX0_add_13 : decode cX0_add 13 = .ok (.ifCond .ne 11, 3) := by decide +kernel
theorem dX0_add_16 : decode cX0_add 16 = .ok (.aload_n 0, 1) := by decide +kernel
theorem dX0_add_17 : decode cX0_add 17 = .ok (.iload_n 3, 1) := by decide +kernel
theorem dX0_add_18 : decode cX0_add 18 = .ok (.invokevirtual 76, 3) := by decide +kernel
theorem dX0_add_21 : decode cX0_add 21 = .ok (.ifCond .eq 5, 3) := by decide +kernel
theorem dX0_add_24 : decode cX0_add 24 = .ok (.iconst (-1), 1) := by decide +kernel
theorem dX0_add_25 : decode cX0_add 25 = .ok (.ireturn, 1) := by decide +kernel
theorem dX0_add_26 : decode cX0_add 26 = .ok (.aload_n 0, 1) := by decide +kernel
theorem dX0_add_27 : decode cX0_add 27 = .ok (.iconst 1, 1) := by decide +kernel
theorem dX0_add_28 : decode cX0_add 28 = .ok (.iload_n 1, 1) := by decide +kernel
theorem dX0_add_29 : decode cX0_add 29 = .ok (.iload_n 2, 1) := by decide +kernel
theorem dX0_add_30 : decode cX0_add 30 = .ok (.iload_n 3, 1) := by decide +kernel
theorem dX0_add_31 : decode cX0_add 31 = .ok (.iconst 0, 1) := by decide +kernel
theorem dX0_add_32 : decode cX0_add 32 = .ok (.invokevirtual 80, 3) := by decide +kernel
theorem dX0_add_35 : decode cX0_add 35 = .ok (.ireturn, 1) := by decide +kernel
abbrev cX0_subtract : ByteArray := prog_1_method_6_code
def yX0_subtract : MethodName := ⟨RX0, "subtract", "(III)I"⟩
theorem dX0_subtract_0 : decode cX0_subtract 0 = .ok (.aload_n 0, 1) := by decide +kernel
theorem dX0_subtract_1 : decode cX0_subtract 1 = .ok (.iload_n 1, 1) := by decide +kernel
theorem dX0_subtract_2 : decode cX0_subtract 2 = .ok (.invokevirtual 76, 3) := by decide +kernel
theorem dX0_subtract_5 : decode cX0_subtract 5 = .ok (.ifCond .ne 19, 3) := by decide +kernel
theorem dX0_subtract_8 : decode cX0_subtract 8 = .ok (.aload_n 0, 1) := by decide +kernel
theorem dX0_subtract_9 : decode cX0_subtract 9 = .ok (.iload_n 2, 1) := by decide +kernel
theorem dX0_subtract_10 : decode cX0_subtract 10 = .ok (.invokevirtual 76, 3) := by decide +kernel
theorem dX0_subtract_13 : decode cX0_subtract 13 = .ok (.ifCond .ne 11, 3) := by decide +kernel
theorem dX0_subtract_16 : decode cX0_subtract 16 = .ok (.aload_n 0, 1) := by decide +kernel
theorem dX0_subtract_17 : decode cX0_subtract 17 = .ok (.iload_n 3, 1) := by decide +kernel
theorem dX0_subtract_18 : decode cX0_subtract 18 = .ok (.invokevirtual 76, 3) := by decide +kernel
theorem dX0_subtract_21 : decode cX0_subtract 21 = .ok (.ifCond .eq 5, 3) := by decide +kernel
theorem dX0_subtract_24 : decode cX0_subtract 24 = .ok (.iconst (-1), 1) := by decide +kernel
theorem dX0_subtract_25 : decode cX0_subtract 25 = .ok (.ireturn, 1) := by decide +kernel
theorem dX0_subtract_26 : decode cX0_subtract 26 = .ok (.aload_n 0, 1) := by decide +kernel
theorem dX0_subtract_27 : decode cX0_subtract 27 = .ok (.iconst 2, 1) := by decide +kernel
theorem dX0_subtract_28 : decode cX0_subtract 28 = .ok (.iload_n 1, 1) := by decide +kernel
theorem dX0_subtract_29 : decode cX0_subtract 29 = .ok (.iload_n 2, 1) := by decide +kernel
theorem dX0_subtract_30 : decode cX0_subtract 30 = .ok (.iload_n 3, 1) := by decide +kernel
theorem dX0_subtract_31 : decode cX0_subtract 31 = .ok (.iconst 0, 1) := by decide +kernel
theorem dX0_subtract_32 : decode cX0_subtract 32 = .ok (.invokevirtual 80, 3) := by decide +kernel
theorem dX0_subtract_35 : decode cX0_subtract 35 = .ok (.ireturn, 1) := by decide +kernel
abbrev cX0_load : ByteArray := prog_1_method_7_code
def yX0_load : MethodName := ⟨RX0, "load", "(III)I"⟩
theorem dX0_load_0 : decode cX0_load 0 = .ok (.aload_n 0, 1) := by decide +kernel
theorem dX0_load_1 : decode cX0_load 1 = .ok (.iload_n 1, 1) := by decide +kernel
theorem dX0_load_2 : decode cX0_load 2 = .ok (.invokevirtual 76, 3) := by decide +kernel
theorem dX0_load_5 : decode cX0_load 5 = .ok (.ifCond .ne 23, 3) := by decide +kernel
theorem dX0_load_8 : decode cX0_load 8 = .ok (.aload_n 0, 1) := by decide +kernel
theorem dX0_load_9 : decode cX0_load 9 = .ok (.iload_n 2, 1) := by decide +kernel
theorem dX0_load_10 : decode cX0_load 10 = .ok (.invokevirtual 76, 3) := by decide +kernel
theorem dX0_load_13 : decode cX0_load 13 = .ok (.ifCond .ne 15, 3) := by decide +kernel
theorem dX0_load_16 : decode cX0_load 16 = .ok (.iload_n 3, 1) := by decide +kernel
theorem dX0_load_17 : decode cX0_load 17 = .ok (.bipush (-8), 2) := by decide +kernel
theorem dX0_load_19 : decode cX0_load 19 = .ok (.if_icmp .lt 9, 3) := by decide +kernel
theorem dX0_load_22 : decode cX0_load 22 = .ok (.iload_n 3, 1) := by decide +kernel
theorem dX0_load_23 : decode cX0_load 23 = .ok (.bipush 15, 2) := by decide +kernel
theorem dX0_load_25 : decode cX0_load 25 = .ok (.if_icmp .le 5, 3) := by decide +kernel
theorem dX0_load_28 : decode cX0_load 28 = .ok (.iconst (-1), 1) := by decide +kernel
theorem dX0_load_29 : decode cX0_load 29 = .ok (.ireturn, 1) := by decide +kernel
theorem dX0_load_30 : decode cX0_load 30 = .ok (.aload_n 0, 1) := by decide +kernel
theorem dX0_load_31 : decode cX0_load 31 = .ok (.iconst 3, 1) := by decide +kernel
theorem dX0_load_32 : decode cX0_load 32 = .ok (.iload_n 1, 1) := by decide +kernel
theorem dX0_load_33 : decode cX0_load 33 = .ok (.iload_n 2, 1) := by decide +kernel
theorem dX0_load_34 : decode cX0_load 34 = .ok (.iconst (-1), 1) := by decide +kernel
theorem dX0_load_35 : decode cX0_load 35 = .ok (.iload_n 3, 1) := by decide +kernel
theorem dX0_load_36 : decode cX0_load 36 = .ok (.invokevirtual 80, 3) := by decide +kernel
theorem dX0_load_39 : decode cX0_load 39 = .ok (.ireturn, 1) := by decide +kernel
abbrev cX0_store : ByteArray := prog_1_method_8_code
def yX0_store : MethodName := ⟨RX0, "store", "(III)I"⟩
theorem dX0_store_0 : decode cX0_store 0 = .ok (.aload_n 0, 1) := by decide +kernel
theorem dX0_store_1 : decode cX0_store 1 = .ok (.iload_n 1, 1) := by decide +kernel
theorem dX0_store_2 : decode cX0_store 2 = .ok (.invokevirtual 76, 3) := by decide +kernel
theorem dX0_store_5 : decode cX0_store 5 = .ok (.ifCond .ne 23, 3) := by decide +kernel
theorem dX0_store_8 : decode cX0_store 8 = .ok (.aload_n 0, 1) := by decide +kernel
theorem dX0_store_9 : decode cX0_store 9 = .ok (.iload_n 3, 1) := by decide +kernel
theorem dX0_store_10 : decode cX0_store 10 = .ok (.invokevirtual 76, 3) := by decide +kernel
theorem dX0_store_13 : decode cX0_store 13 = .ok (.ifCond .ne 15, 3) := by decide +kernel
theorem dX0_store_16 : decode cX0_store 16 = .ok (.iload_n 2, 1) := by decide +kernel
theorem dX0_store_17 : decode cX0_store 17 = .ok (.bipush (-8), 2) := by decide +kernel
theorem dX0_store_19 : decode cX0_store 19 = .ok (.if_icmp .lt 9, 3) := by decide +kernel
theorem dX0_store_22 : decode cX0_store 22 = .ok (.iload_n 2, 1) := by decide +kernel
theorem dX0_store_23 : decode cX0_store 23 = .ok (.bipush 15, 2) := by decide +kernel
theorem dX0_store_25 : decode cX0_store 25 = .ok (.if_icmp .le 5, 3) := by decide +kernel
theorem dX0_store_28 : decode cX0_store 28 = .ok (.iconst (-1), 1) := by decide +kernel
theorem dX0_store_29 : decode cX0_store 29 = .ok (.ireturn, 1) := by decide +kernel
theorem dX0_store_30 : decode cX0_store 30 = .ok (.aload_n 0, 1) := by decide +kernel
theorem dX0_store_31 : decode cX0_store 31 = .ok (.iconst 4, 1) := by decide +kernel
theorem dX0_store_32 : decode cX0_store 32 = .ok (.iconst (-1), 1) := by decide +kernel
theorem dX0_store_33 : decode cX0_store 33 = .ok (.iload_n 1, 1) := by decide +kernel
theorem dX0_store_34 : decode cX0_store 34 = .ok (.iload_n 3, 1) := by decide +kernel
theorem dX0_store_35 : decode cX0_store 35 = .ok (.iload_n 2, 1) := by decide +kernel
theorem dX0_store_36 : decode cX0_store 36 = .ok (.invokevirtual 80, 3) := by decide +kernel
theorem dX0_store_39 : decode cX0_store 39 = .ok (.ireturn, 1) := by decide +kernel
abbrev cX0_leave : ByteArray := prog_1_method_9_code
def yX0_leave : MethodName := ⟨RX0, "leave", "(I)I"⟩
theorem dX0_leave_0 : decode cX0_leave 0 = .ok (.aload_n 0, 1) := by decide +kernel
theorem dX0_leave_1 : decode cX0_leave 1 = .ok (.iload_n 1, 1) := by decide +kernel
theorem dX0_leave_2 : decode cX0_leave 2 = .ok (.invokevirtual 76, 3) := by decide +kernel
theorem dX0_leave_5 : decode cX0_leave 5 = .ok (.ifCond .eq 5, 3) := by decide +kernel
theorem dX0_leave_8 : decode cX0_leave 8 = .ok (.iconst (-1), 1) := by decide +kernel
theorem dX0_leave_9 : decode cX0_leave 9 = .ok (.ireturn, 1) := by decide +kernel
theorem dX0_leave_10 : decode cX0_leave 10 = .ok (.aload_n 0, 1) := by decide +kernel
theorem dX0_leave_11 : decode cX0_leave 11 = .ok (.iconst 5, 1) := by decide +kernel
theorem dX0_leave_12 : decode cX0_leave 12 = .ok (.iconst (-1), 1) := by decide +kernel
theorem dX0_leave_13 : decode cX0_leave 13 = .ok (.iload_n 1, 1) := by decide +kernel
theorem dX0_leave_14 : decode cX0_leave 14 = .ok (.iconst (-1), 1) := by decide +kernel
theorem dX0_leave_15 : decode cX0_leave 15 = .ok (.iconst 0, 1) := by decide +kernel
theorem dX0_leave_16 : decode cX0_leave 16 = .ok (.invokevirtual 80, 3) := by decide +kernel
theorem dX0_leave_19 : decode cX0_leave 19 = .ok (.ireturn, 1) := by decide +kernel
abbrev cX0_size : ByteArray := prog_1_method_10_code
def yX0_size : MethodName := ⟨RX0, "size", "()I"⟩
theorem dX0_size_0 : decode cX0_size 0 = .ok (.aload_n 0, 1) := by decide +kernel
theorem dX0_size_1 : decode cX0_size 1 = .ok (.getfield 69, 3) := by decide +kernel
theorem dX0_size_4 : decode cX0_size 4 = .ok (.ireturn, 1) := by decide +kernel
abbrev cX0_clear : ByteArray := prog_1_method_11_code
def yX0_clear : MethodName := ⟨RX0, "clear", "()V"⟩
theorem dX0_clear_0 : decode cX0_clear 0 = .ok (.aload_n 0, 1) := by decide +kernel
theorem dX0_clear_1 : decode cX0_clear 1 = .ok (.iconst 0, 1) := by decide +kernel
theorem dX0_clear_2 : decode cX0_clear 2 = .ok (.putfield 69, 3) := by decide +kernel
theorem dX0_clear_5 : decode cX0_clear 5 = .ok (.aload_n 0, 1) := by decide +kernel
theorem dX0_clear_6 : decode cX0_clear 6 = .ok (.iconst 0, 1) := by decide +kernel
theorem dX0_clear_7 : decode cX0_clear 7 = .ok (.putfield 72, 3) := by decide +kernel
theorem dX0_clear_10 : decode cX0_clear 10 = .ok (.return_, 1) := by decide +kernel
abbrev cX0_setRegister : ByteArray := prog_1_method_12_code
def yX0_setRegister : MethodName := ⟨RX0, "setRegister", "(II)I"⟩
theorem dX0_setRegister_0 : decode cX0_setRegister 0 = .ok (.aload_n 0, 1) := by decide +kernel
theorem dX0_setRegister_1 : decode cX0_setRegister 1 = .ok (.iload_n 1, 1) := by decide +kernel
theorem dX0_setRegister_2 : decode cX0_setRegister 2 = .ok (.invokevirtual 76, 3) := by decide +kernel
theorem dX0_setRegister_5 : decode cX0_setRegister 5 = .ok (.ifCond .eq 5, 3) := by decide +kernel
theorem dX0_setRegister_8 : decode cX0_setRegister 8 = .ok (.iconst (-1), 1) := by decide +kernel
theorem dX0_setRegister_9 : decode cX0_setRegister 9 = .ok (.ireturn, 1) := by decide +kernel
theorem dX0_setRegister_10 : decode cX0_setRegister 10 = .ok (.aload_n 0, 1) := by decide +kernel
theorem dX0_setRegister_11 : decode cX0_setRegister 11 = .ok (.getfield 25, 3) := by decide +kernel
theorem dX0_setRegister_14 : decode cX0_setRegister 14 = .ok (.iload_n 1, 1) := by decide +kernel
theorem dX0_setRegister_15 : decode cX0_setRegister 15 = .ok (.iload_n 2, 1) := by decide +kernel
theorem dX0_setRegister_16 : decode cX0_setRegister 16 = .ok (.iastore, 1) := by decide +kernel
theorem dX0_setRegister_17 : decode cX0_setRegister 17 = .ok (.iconst 0, 1) := by decide +kernel
theorem dX0_setRegister_18 : decode cX0_setRegister 18 = .ok (.ireturn, 1) := by decide +kernel
abbrev cX0_register : ByteArray := prog_1_method_13_code
def yX0_register : MethodName := ⟨RX0, "register", "(I)I"⟩
theorem dX0_register_0 : decode cX0_register 0 = .ok (.aload_n 0, 1) := by decide +kernel
theorem dX0_register_1 : decode cX0_register 1 = .ok (.iload_n 1, 1) := by decide +kernel
theorem dX0_register_2 : decode cX0_register 2 = .ok (.invokevirtual 76, 3) := by decide +kernel
theorem dX0_register_5 : decode cX0_register 5 = .ok (.ifCond .eq 7, 3) := by decide +kernel
theorem dX0_register_8 : decode cX0_register 8 = .ok (.iconst 0, 1) := by decide +kernel
theorem dX0_register_9 : decode cX0_register 9 = .ok (.goto 9, 3) := by decide +kernel
theorem dX0_register_12 : decode cX0_register 12 = .ok (.aload_n 0, 1) := by decide +kernel
theorem dX0_register_13 : decode cX0_register 13 = .ok (.getfield 25, 3) := by decide +kernel
theorem dX0_register_16 : decode cX0_register 16 = .ok (.iload_n 1, 1) := by decide +kernel
theorem dX0_register_17 : decode cX0_register 17 = .ok (.iaload, 1) := by decide +kernel
theorem dX0_register_18 : decode cX0_register 18 = .ok (.ireturn, 1) := by decide +kernel
abbrev cX0_setWord : ByteArray := prog_1_method_15_code
def yX0_setWord : MethodName := ⟨RX0, "setWord", "(II)I"⟩
theorem dX0_setWord_0 : decode cX0_setWord 0 = .ok (.aload_n 0, 1) := by decide +kernel
theorem dX0_setWord_1 : decode cX0_setWord 1 = .ok (.iload_n 1, 1) := by decide +kernel
theorem dX0_setWord_2 : decode cX0_setWord 2 = .ok (.invokevirtual 84, 3) := by decide +kernel
theorem dX0_setWord_5 : decode cX0_setWord 5 = .ok (.ifCond .eq 5, 3) := by decide +kernel
theorem dX0_setWord_8 : decode cX0_setWord 8 = .ok (.iconst (-1), 1) := by decide +kernel
theorem dX0_setWord_9 : decode cX0_setWord 9 = .ok (.ireturn, 1) := by decide +kernel
theorem dX0_setWord_10 : decode cX0_setWord 10 = .ok (.aload_n 0, 1) := by decide +kernel
theorem dX0_setWord_11 : decode cX0_setWord 11 = .ok (.getfield 28, 3) := by decide +kernel
theorem dX0_setWord_14 : decode cX0_setWord 14 = .ok (.iload_n 1, 1) := by decide +kernel
theorem dX0_setWord_15 : decode cX0_setWord 15 = .ok (.iload_n 2, 1) := by decide +kernel
theorem dX0_setWord_16 : decode cX0_setWord 16 = .ok (.iastore, 1) := by decide +kernel
theorem dX0_setWord_17 : decode cX0_setWord 17 = .ok (.iconst 0, 1) := by decide +kernel
theorem dX0_setWord_18 : decode cX0_setWord 18 = .ok (.ireturn, 1) := by decide +kernel
abbrev cX0_badAddress : ByteArray := prog_1_method_14_code
def yX0_badAddress : MethodName := ⟨RX0, "badAddress", "(I)Z"⟩
theorem dX0_badAddress_0 : decode cX0_badAddress 0 = .ok (.iload_n 1, 1) := by decide +kernel
theorem dX0_badAddress_1 : decode cX0_badAddress 1 = .ok (.ifCond .lt 9, 3) := by decide +kernel
theorem dX0_badAddress_4 : decode cX0_badAddress 4 = .ok (.iload_n 1, 1) := by decide +kernel
theorem dX0_badAddress_5 : decode cX0_badAddress 5 = .ok (.bipush 15, 2) := by decide +kernel
theorem dX0_badAddress_7 : decode cX0_badAddress 7 = .ok (.if_icmp .le 7, 3) := by decide +kernel
theorem dX0_badAddress_10 : decode cX0_badAddress 10 = .ok (.iconst 1, 1) := by decide +kernel
theorem dX0_badAddress_11 : decode cX0_badAddress 11 = .ok (.goto 4, 3) := by decide +kernel
theorem dX0_badAddress_14 : decode cX0_badAddress 14 = .ok (.iconst 0, 1) := by decide +kernel
theorem dX0_badAddress_15 : decode cX0_badAddress 15 = .ok (.ireturn, 1) := by decide +kernel
abbrev cX0_word : ByteArray := prog_1_method_16_code
def yX0_word : MethodName := ⟨RX0, "word", "(I)I"⟩
theorem dX0_word_0 : decode cX0_word 0 = .ok (.aload_n 0, 1) := by decide +kernel
theorem dX0_word_1 : decode cX0_word 1 = .ok (.iload_n 1, 1) := by decide +kernel
theorem dX0_word_2 : decode cX0_word 2 = .ok (.invokevirtual 84, 3) := by decide +kernel
theorem dX0_word_5 : decode cX0_word 5 = .ok (.ifCond .eq 7, 3) := by decide +kernel
theorem dX0_word_8 : decode cX0_word 8 = .ok (.iconst 0, 1) := by decide +kernel
theorem dX0_word_9 : decode cX0_word 9 = .ok (.goto 9, 3) := by decide +kernel
theorem dX0_word_12 : decode cX0_word 12 = .ok (.aload_n 0, 1) := by decide +kernel
theorem dX0_word_13 : decode cX0_word 13 = .ok (.getfield 28, 3) := by decide +kernel
theorem dX0_word_16 : decode cX0_word 16 = .ok (.iload_n 1, 1) := by decide +kernel
theorem dX0_word_17 : decode cX0_word 17 = .ok (.iaload, 1) := by decide +kernel
theorem dX0_word_18 : decode cX0_word 18 = .ok (.ireturn, 1) := by decide +kernel
abbrev cX0_bar : ByteArray := prog_1_method_17_code
def yX0_bar : MethodName := ⟨RX0, "bar", "(II)I"⟩
theorem dX0_bar_0 : decode cX0_bar 0 = .ok (.aload_n 0, 1) := by decide +kernel
theorem dX0_bar_1 : decode cX0_bar 1 = .ok (.iload_n 1, 1) := by decide +kernel
theorem dX0_bar_2 : decode cX0_bar 2 = .ok (.invokevirtual 84, 3) := by decide +kernel
theorem dX0_bar_5 : decode cX0_bar 5 = .ok (.ifCond .eq 5, 3) := by decide +kernel
theorem dX0_bar_8 : decode cX0_bar 8 = .ok (.iconst (-1), 1) := by decide +kernel
theorem dX0_bar_9 : decode cX0_bar 9 = .ok (.ireturn, 1) := by decide +kernel
theorem dX0_bar_10 : decode cX0_bar 10 = .ok (.aload_n 0, 1) := by decide +kernel
theorem dX0_bar_11 : decode cX0_bar 11 = .ok (.getfield 31, 3) := by decide +kernel
theorem dX0_bar_14 : decode cX0_bar 14 = .ok (.iload_n 1, 1) := by decide +kernel
theorem dX0_bar_15 : decode cX0_bar 15 = .ok (.baload, 1) := by decide +kernel
theorem dX0_bar_16 : decode cX0_bar 16 = .ok (.ifCond .eq 7, 3) := by decide +kernel
theorem dX0_bar_19 : decode cX0_bar 19 = .ok (.iconst 1, 1) := by decide +kernel
theorem dX0_bar_20 : decode cX0_bar 20 = .ok (.goto 4, 3) := by decide +kernel
theorem dX0_bar_23 : decode cX0_bar 23 = .ok (.iconst 0, 1) := by decide +kernel
theorem dX0_bar_24 : decode cX0_bar 24 = .ok (.istore_n 3, 1) := by decide +kernel
theorem dX0_bar_25 : decode cX0_bar 25 = .ok (.aload_n 0, 1) := by decide +kernel
theorem dX0_bar_26 : decode cX0_bar 26 = .ok (.getfield 31, 3) := by decide +kernel
theorem dX0_bar_29 : decode cX0_bar 29 = .ok (.iload_n 1, 1) := by decide +kernel
theorem dX0_bar_30 : decode cX0_bar 30 = .ok (.iload_n 2, 1) := by decide +kernel
theorem dX0_bar_31 : decode cX0_bar 31 = .ok (.ifCond .eq 7, 3) := by decide +kernel
theorem dX0_bar_34 : decode cX0_bar 34 = .ok (.iconst 1, 1) := by decide +kernel
theorem dX0_bar_35 : decode cX0_bar 35 = .ok (.goto 4, 3) := by decide +kernel
theorem dX0_bar_38 : decode cX0_bar 38 = .ok (.iconst 0, 1) := by decide +kernel
theorem dX0_bar_39 : decode cX0_bar 39 = .ok (.bastore, 1) := by decide +kernel
theorem dX0_bar_40 : decode cX0_bar 40 = .ok (.iload_n 3, 1) := by decide +kernel
theorem dX0_bar_41 : decode cX0_bar 41 = .ok (.ireturn, 1) := by decide +kernel
abbrev cX0_run : ByteArray := prog_1_method_38_code
def yX0_run : MethodName := ⟨RX0, "run", "()I"⟩
theorem dX0_run_0 : decode cX0_run 0 = .ok (.aload_n 0, 1) := by decide +kernel
theorem dX0_run_1 : decode cX0_run 1 = .ok (.invokevirtual 152, 3) := by decide +kernel
theorem dX0_run_4 : decode cX0_run 4 = .ok (.aload_n 0, 1) := by decide +kernel
theorem dX0_run_5 : decode cX0_run 5 = .ok (.iconst 0, 1) := by decide +kernel
theorem dX0_run_6 : decode cX0_run 6 = .ok (.putfield 127, 3) := by decide +kernel
theorem dX0_run_9 : decode cX0_run 9 = .ok (.iconst 0, 1) := by decide +kernel
theorem dX0_run_10 : decode cX0_run 10 = .ok (.istore_n 1, 1) := by decide +kernel
theorem dX0_run_11 : decode cX0_run 11 = .ok (.iload_n 1, 1) := by decide +kernel
theorem dX0_run_12 : decode cX0_run 12 = .ok (.iconst 4, 1) := by decide +kernel
theorem dX0_run_13 : decode cX0_run 13 = .ok (.if_icmp .ge 23, 3) := by decide +kernel
theorem dX0_run_16 : decode cX0_run 16 = .ok (.aload_n 0, 1) := by decide +kernel
theorem dX0_run_17 : decode cX0_run 17 = .ok (.getfield 59, 3) := by decide +kernel
theorem dX0_run_20 : decode cX0_run 20 = .ok (.iload_n 1, 1) := by decide +kernel
theorem dX0_run_21 : decode cX0_run 21 = .ok (.iconst (-1), 1) := by decide +kernel
theorem dX0_run_22 : decode cX0_run 22 = .ok (.iastore, 1) := by decide +kernel
theorem dX0_run_23 : decode cX0_run 23 = .ok (.aload_n 0, 1) := by decide +kernel
theorem dX0_run_24 : decode cX0_run 24 = .ok (.getfield 62, 3) := by decide +kernel
theorem dX0_run_27 : decode cX0_run 27 = .ok (.iload_n 1, 1) := by decide +kernel
theorem dX0_run_28 : decode cX0_run 28 = .ok (.iconst (-1), 1) := by decide +kernel
theorem dX0_run_29 : decode cX0_run 29 = .ok (.iastore, 1) := by decide +kernel
theorem dX0_run_30 : decode cX0_run 30 = .ok (.iinc 1 1, 3) := by decide +kernel
theorem dX0_run_33 : decode cX0_run 33 = .ok (.goto (-22), 3) := by decide +kernel
theorem dX0_run_36 : decode cX0_run 36 = .ok (.iconst (-1), 1) := by decide +kernel
theorem dX0_run_37 : decode cX0_run 37 = .ok (.istore_n 1, 1) := by decide +kernel
theorem dX0_run_38 : decode cX0_run 38 = .ok (.iconst 0, 1) := by decide +kernel
theorem dX0_run_39 : decode cX0_run 39 = .ok (.istore_n 2, 1) := by decide +kernel
theorem dX0_run_40 : decode cX0_run 40 = .ok (.iload_n 2, 1) := by decide +kernel
theorem dX0_run_41 : decode cX0_run 41 = .ok (.aload_n 0, 1) := by decide +kernel
theorem dX0_run_42 : decode cX0_run 42 = .ok (.getfield 115, 3) := by decide +kernel
theorem dX0_run_45 : decode cX0_run 45 = .ok (.if_icmp .ge 24, 3) := by decide +kernel
theorem dX0_run_48 : decode cX0_run 48 = .ok (.iload_n 1, 1) := by decide +kernel
theorem dX0_run_49 : decode cX0_run 49 = .ok (.ifCond .ge 20, 3) := by decide +kernel
theorem dX0_run_52 : decode cX0_run 52 = .ok (.aload_n 0, 1) := by decide +kernel
theorem dX0_run_53 : decode cX0_run 53 = .ok (.aload_n 0, 1) := by decide +kernel
theorem dX0_run_54 : decode cX0_run 54 = .ok (.getfield 47, 3) := by decide +kernel
theorem dX0_run_57 : decode cX0_run 57 = .ok (.iload_n 2, 1) := by decide +kernel
theorem dX0_run_58 : decode cX0_run 58 = .ok (.iaload, 1) := by decide +kernel
theorem dX0_run_59 : decode cX0_run 59 = .ok (.invokevirtual 155, 3) := by decide +kernel
theorem dX0_run_62 : decode cX0_run 62 = .ok (.istore_n 1, 1) := by decide +kernel
theorem dX0_run_63 : decode cX0_run 63 = .ok (.iinc 2 1, 3) := by decide +kernel
theorem dX0_run_66 : decode cX0_run 66 = .ok (.goto (-26), 3) := by decide +kernel
theorem dX0_run_69 : decode cX0_run 69 = .ok (.aload_n 0, 1) := by decide +kernel
theorem dX0_run_70 : decode cX0_run 70 = .ok (.iload_n 1, 1) := by decide +kernel
theorem dX0_run_71 : decode cX0_run 71 = .ok (.ifCond .ge 7, 3) := by decide +kernel
theorem dX0_run_74 : decode cX0_run 74 = .ok (.iconst 0, 1) := by decide +kernel
theorem dX0_run_75 : decode cX0_run 75 = .ok (.goto 4, 3) := by decide +kernel
theorem dX0_run_78 : decode cX0_run 78 = .ok (.iload_n 1, 1) := by decide +kernel
theorem dX0_run_79 : decode cX0_run 79 = .ok (.putfield 65, 3) := by decide +kernel
theorem dX0_run_82 : decode cX0_run 82 = .ok (.aload_n 0, 1) := by decide +kernel
theorem dX0_run_83 : decode cX0_run 83 = .ok (.getfield 65, 3) := by decide +kernel
theorem dX0_run_86 : decode cX0_run 86 = .ok (.ireturn, 1) := by decide +kernel
abbrev cX0_schedule : ByteArray := prog_1_method_29_code
def yX0_schedule : MethodName := ⟨RX0, "schedule", "()V"⟩
theorem dX0_schedule_0 : decode cX0_schedule 0 = .ok (.aload_n 0, 1) := by decide +kernel
theorem dX0_schedule_1 : decode cX0_schedule 1 = .ok (.getfield 72, 3) := by decide +kernel
theorem dX0_schedule_4 : decode cX0_schedule 4 = .ok (.ifCond .eq 4, 3) := by decide +kernel
theorem dX0_schedule_7 : decode cX0_schedule 7 = .ok (.return_, 1) := by decide +kernel
theorem dX0_schedule_8 : decode cX0_schedule 8 = .ok (.aload_n 0, 1) := by decide +kernel
theorem dX0_schedule_9 : decode cX0_schedule 9 = .ok (.invokevirtual 118, 3) := by decide +kernel
theorem dX0_schedule_12 : decode cX0_schedule 12 = .ok (.aload_n 0, 1) := by decide +kernel
theorem dX0_schedule_13 : decode cX0_schedule 13 = .ok (.invokevirtual 121, 3) := by decide +kernel
theorem dX0_schedule_16 : decode cX0_schedule 16 = .ok (.aload_n 0, 1) := by decide +kernel
theorem dX0_schedule_17 : decode cX0_schedule 17 = .ok (.iconst 0, 1) := by decide +kernel
theorem dX0_schedule_18 : decode cX0_schedule 18 = .ok (.putfield 115, 3) := by decide +kernel
theorem dX0_schedule_21 : decode cX0_schedule 21 = .ok (.iconst 0, 1) := by decide +kernel
theorem dX0_schedule_22 : decode cX0_schedule 22 = .ok (.istore_n 1, 1) := by decide +kernel
theorem dX0_schedule_23 : decode cX0_schedule 23 = .ok (.iload_n 1, 1) := by decide +kernel
theorem dX0_schedule_24 : decode cX0_schedule 24 = .ok (.bipush 100, 2) := by decide +kernel
theorem dX0_schedule_26 : decode cX0_schedule 26 = .ok (.if_icmp .ge 19, 3) := by decide +kernel
theorem dX0_schedule_29 : decode cX0_schedule 29 = .ok (.aload_n 0, 1) := by decide +kernel
theorem dX0_schedule_30 : decode cX0_schedule 30 = .ok (.iload_n 1, 1) := by decide +kernel
theorem dX0_schedule_31 : decode cX0_schedule 31 = .ok (.invokevirtual 124, 3) := by decide +kernel
theorem dX0_schedule_34 : decode cX0_schedule 34 = .ok (.aload_n 0, 1) := by decide +kernel
theorem dX0_schedule_35 : decode cX0_schedule 35 = .ok (.iload_n 1, 1) := by decide +kernel
theorem dX0_schedule_36 : decode cX0_schedule 36 = .ok (.invokevirtual 124, 3) := by decide +kernel
theorem dX0_schedule_39 : decode cX0_schedule 39 = .ok (.iinc 1 1, 3) := by decide +kernel
theorem dX0_schedule_42 : decode cX0_schedule 42 = .ok (.goto (-19), 3) := by decide +kernel
theorem dX0_schedule_45 : decode cX0_schedule 45 = .ok (.aload_n 0, 1) := by decide +kernel
theorem dX0_schedule_46 : decode cX0_schedule 46 = .ok (.iconst 1, 1) := by decide +kernel
theorem dX0_schedule_47 : decode cX0_schedule 47 = .ok (.putfield 72, 3) := by decide +kernel
theorem dX0_schedule_50 : decode cX0_schedule 50 = .ok (.return_, 1) := by decide +kernel
end
section
set_option maxRecDepth 100000
abbrev cX0_orderAll : ByteArray := prog_1_method_22_code
def yX0_orderAll : MethodName := ⟨RX0, "orderAll", "()V"⟩
theorem dX0_orderAll_0 : decode cX0_orderAll 0 = .ok (.iconst 0, 1) := by decide +kernel
theorem dX0_orderAll_1 : decode cX0_orderAll 1 = .ok (.istore_n 1, 1) := by decide +kernel
theorem dX0_orderAll_2 : decode cX0_orderAll 2 = .ok (.iload_n 1, 1) := by decide +kernel
theorem dX0_orderAll_3 : decode cX0_orderAll 3 = .ok (.bipush 28, 2) := by decide +kernel
theorem dX0_orderAll_5 : decode cX0_orderAll 5 = .ok (.if_icmp .ge 37, 3) := by decide +kernel
theorem dX0_orderAll_8 : decode cX0_orderAll 8 = .ok (.aload_n 0, 1) := by decide +kernel
theorem dX0_orderAll_9 : decode cX0_orderAll 9 = .ok (.getfield 35, 3) := by decide +kernel
theorem dX0_orderAll_12 : decode cX0_orderAll 12 = .ok (.iload_n 1, 1) := by decide +kernel
theorem dX0_orderAll_13 : decode cX0_orderAll 13 = .ok (.iconst 0, 1) := by decide +kernel
theorem dX0_orderAll_14 : decode cX0_orderAll 14 = .ok (.bastore, 1) := by decide +kernel
theorem dX0_orderAll_15 : decode cX0_orderAll 15 = .ok (.aload_n 0, 1) := by decide +kernel
theorem dX0_orderAll_16 : decode cX0_orderAll 16 = .ok (.getfield 38, 3) := by decide +kernel
theorem dX0_orderAll_19 : decode cX0_orderAll 19 = .ok (.iload_n 1, 1) := by decide +kernel
theorem dX0_orderAll_20 : decode cX0_orderAll 20 = .ok (.iconst 0, 1) := by decide +kernel
theorem dX0_orderAll_21 : decode cX0_orderAll 21 = .ok (.iastore, 1) := by decide +kernel
theorem dX0_orderAll_22 : decode cX0_orderAll 22 = .ok (.aload_n 0, 1) := by decide +kernel
theorem dX0_orderAll_23 : decode cX0_orderAll 23 = .ok (.getfield 44, 3) := by decide +kernel
theorem dX0_orderAll_26 : decode cX0_orderAll 26 = .ok (.iload_n 1, 1) := by decide +kernel
theorem dX0_orderAll_27 : decode cX0_orderAll 27 = .ok (.iconst (-1), 1) := by decide +kernel
theorem dX0_orderAll_28 : decode cX0_orderAll 28 = .ok (.iastore, 1) := by decide +kernel
theorem dX0_orderAll_29 : decode cX0_orderAll 29 = .ok (.aload_n 0, 1) := by decide +kernel
theorem dX0_orderAll_30 : decode cX0_orderAll 30 = .ok (.getfield 41, 3) := by decide +kernel
theorem dX0_orderAll_33 : decode cX0_orderAll 33 = .ok (.iload_n 1, 1) := by decide +kernel
theorem dX0_orderAll_34 : decode cX0_orderAll 34 = .ok (.iconst 0, 1) := by decide +kernel
theorem dX0_orderAll_35 : decode cX0_orderAll 35 = .ok (.iastore, 1) := by decide +kernel
theorem dX0_orderAll_36 : decode cX0_orderAll 36 = .ok (.iinc 1 1, 3) := by decide +kernel
theorem dX0_orderAll_39 : decode cX0_orderAll 39 = .ok (.goto (-37), 3) := by decide +kernel
theorem dX0_orderAll_42 : decode cX0_orderAll 42 = .ok (.iconst 0, 1) := by decide +kernel
theorem dX0_orderAll_43 : decode cX0_orderAll 43 = .ok (.istore_n 1, 1) := by decide +kernel
theorem dX0_orderAll_44 : decode cX0_orderAll 44 = .ok (.iload_n 1, 1) := by decide +kernel
theorem dX0_orderAll_45 : decode cX0_orderAll 45 = .ok (.aload_n 0, 1) := by decide +kernel
theorem dX0_orderAll_46 : decode cX0_orderAll 46 = .ok (.getfield 69, 3) := by decide +kernel
theorem dX0_orderAll_49 : decode cX0_orderAll 49 = .ok (.if_icmp .ge 69, 3) := by decide +kernel
theorem dX0_orderAll_52 : decode cX0_orderAll 52 = .ok (.aload_n 0, 1) := by decide +kernel
theorem dX0_orderAll_53 : decode cX0_orderAll 53 = .ok (.getfield 35, 3) := by decide +kernel
theorem dX0_orderAll_56 : decode cX0_orderAll 56 = .ok (.iload_n 1, 1) := by decide +kernel
theorem dX0_orderAll_57 : decode cX0_orderAll 57 = .ok (.iconst 1, 1) := by decide +kernel
theorem dX0_orderAll_58 : decode cX0_orderAll 58 = .ok (.bastore, 1) := by decide +kernel
theorem dX0_orderAll_59 : decode cX0_orderAll 59 = .ok (.iconst 0, 1) := by decide +kernel
theorem dX0_orderAll_60 : decode cX0_orderAll 60 = .ok (.istore_n 2, 1) := by decide +kernel
theorem dX0_orderAll_61 : decode cX0_orderAll 61 = .ok (.iload_n 2, 1) := by decide +kernel
theorem dX0_orderAll_62 : decode cX0_orderAll 62 = .ok (.iload_n 1, 1) := by decide +kernel
theorem dX0_orderAll_63 : decode cX0_orderAll 63 = .ok (.if_icmp .ge 34, 3) := by decide +kernel
theorem dX0_orderAll_66 : decode cX0_orderAll 66 = .ok (.aload_n 0, 1) := by decide +kernel
theorem dX0_orderAll_67 : decode cX0_orderAll 67 = .ok (.iload_n 2, 1) := by decide +kernel
theorem dX0_orderAll_68 : decode cX0_orderAll 68 = .ok (.iload_n 1, 1) := by decide +kernel
theorem dX0_orderAll_69 : decode cX0_orderAll 69 = .ok (.invokevirtual 94, 3) := by decide +kernel
theorem dX0_orderAll_72 : decode cX0_orderAll 72 = .ok (.ifCond .eq 19, 3) := by decide +kernel
theorem dX0_orderAll_75 : decode cX0_orderAll 75 = .ok (.aload_n 0, 1) := by decide +kernel
theorem dX0_orderAll_76 : decode cX0_orderAll 76 = .ok (.getfield 38, 3) := by decide +kernel
theorem dX0_orderAll_79 : decode cX0_orderAll 79 = .ok (.iload_n 1, 1) := by decide +kernel
theorem dX0_orderAll_80 : decode cX0_orderAll 80 = .ok (.aload_n 0, 1) := by decide +kernel
theorem dX0_orderAll_81 : decode cX0_orderAll 81 = .ok (.getfield 38, 3) := by decide +kernel
theorem dX0_orderAll_84 : decode cX0_orderAll 84 = .ok (.iload_n 1, 1) := by decide +kernel
theorem dX0_orderAll_85 : decode cX0_orderAll 85 = .ok (.iaload, 1) := by decide +kernel
theorem dX0_orderAll_86 : decode cX0_orderAll 86 = .ok (.iconst 1, 1) := by decide +kernel
theorem dX0_orderAll_87 : decode cX0_orderAll 87 = .ok (.iload_n 2, 1) := by decide +kernel
theorem dX0_orderAll_88 : decode cX0_orderAll 88 = .ok (.ishl, 1) := by decide +kernel
theorem dX0_orderAll_89 : decode cX0_orderAll 89 = .ok (.ior, 1) := by decide +kernel
theorem dX0_orderAll_90 : decode cX0_orderAll 90 = .ok (.iastore, 1) := by decide +kernel
theorem dX0_orderAll_91 : decode cX0_orderAll 91 = .ok (.iinc 2 1, 3) := by decide +kernel
theorem dX0_orderAll_94 : decode cX0_orderAll 94 = .ok (.goto (-33), 3) := by decide +kernel
theorem dX0_orderAll_97 : decode cX0_orderAll 97 = .ok (.aload_n 0, 1) := by decide +kernel
theorem dX0_orderAll_98 : decode cX0_orderAll 98 = .ok (.getfield 7, 3) := by decide +kernel
theorem dX0_orderAll_101 : decode cX0_orderAll 101 = .ok (.iload_n 1, 1) := by decide +kernel
theorem dX0_orderAll_102 : decode cX0_orderAll 102 = .ok (.iaload, 1) := by decide +kernel
theorem dX0_orderAll_103 : decode cX0_orderAll 103 = .ok (.iconst 3, 1) := by decide +kernel
theorem dX0_orderAll_104 : decode cX0_orderAll 104 = .ok (.if_icmp .ne 8, 3) := by decide +kernel
theorem dX0_orderAll_107 : decode cX0_orderAll 107 = .ok (.aload_n 0, 1) := by decide +kernel
theorem dX0_orderAll_108 : decode cX0_orderAll 108 = .ok (.iload_n 1, 1) := by decide +kernel
theorem dX0_orderAll_109 : decode cX0_orderAll 109 = .ok (.invokevirtual 97, 3) := by decide +kernel
theorem dX0_orderAll_112 : decode cX0_orderAll 112 = .ok (.iinc 1 1, 3) := by decide +kernel
theorem dX0_orderAll_115 : decode cX0_orderAll 115 = .ok (.goto (-71), 3) := by decide +kernel
theorem dX0_orderAll_118 : decode cX0_orderAll 118 = .ok (.return_, 1) := by decide +kernel
abbrev cX0_behind : ByteArray := prog_1_method_20_code
def yX0_behind : MethodName := ⟨RX0, "behind", "(II)Z"⟩
theorem dX0_behind_0 : decode cX0_behind 0 = .ok (.aload_n 0, 1) := by decide +kernel
theorem dX0_behind_1 : decode cX0_behind 1 = .ok (.iload_n 1, 1) := by decide +kernel
theorem dX0_behind_2 : decode cX0_behind 2 = .ok (.invokevirtual 87, 3) := by decide +kernel
theorem dX0_behind_5 : decode cX0_behind 5 = .ok (.ifCond .ne 11, 3) := by decide +kernel
theorem dX0_behind_8 : decode cX0_behind 8 = .ok (.aload_n 0, 1) := by decide +kernel
theorem dX0_behind_9 : decode cX0_behind 9 = .ok (.iload_n 2, 1) := by decide +kernel
theorem dX0_behind_10 : decode cX0_behind 10 = .ok (.invokevirtual 87, 3) := by decide +kernel
theorem dX0_behind_13 : decode cX0_behind 13 = .ok (.ifCond .eq 5, 3) := by decide +kernel
theorem dX0_behind_16 : decode cX0_behind 16 = .ok (.iconst 1, 1) := by decide +kernel
theorem dX0_behind_17 : decode cX0_behind 17 = .ok (.ireturn, 1) := by decide +kernel
theorem dX0_behind_18 : decode cX0_behind 18 = .ok (.aload_n 0, 1) := by decide +kernel
theorem dX0_behind_19 : decode cX0_behind 19 = .ok (.getfield 13, 3) := by decide +kernel
theorem dX0_behind_22 : decode cX0_behind 22 = .ok (.iload_n 1, 1) := by decide +kernel
theorem dX0_behind_23 : decode cX0_behind 23 = .ok (.iaload, 1) := by decide +kernel
theorem dX0_behind_24 : decode cX0_behind 24 = .ok (.aload_n 0, 1) := by decide +kernel
theorem dX0_behind_25 : decode cX0_behind 25 = .ok (.getfield 13, 3) := by decide +kernel
theorem dX0_behind_28 : decode cX0_behind 28 = .ok (.iload_n 2, 1) := by decide +kernel
theorem dX0_behind_29 : decode cX0_behind 29 = .ok (.iaload, 1) := by decide +kernel
theorem dX0_behind_30 : decode cX0_behind 30 = .ok (.if_icmp .ne 5, 3) := by decide +kernel
theorem dX0_behind_33 : decode cX0_behind 33 = .ok (.iconst 1, 1) := by decide +kernel
theorem dX0_behind_34 : decode cX0_behind 34 = .ok (.ireturn, 1) := by decide +kernel
theorem dX0_behind_35 : decode cX0_behind 35 = .ok (.aload_n 0, 1) := by decide +kernel
theorem dX0_behind_36 : decode cX0_behind 36 = .ok (.iload_n 2, 1) := by decide +kernel
theorem dX0_behind_37 : decode cX0_behind 37 = .ok (.aload_n 0, 1) := by decide +kernel
theorem dX0_behind_38 : decode cX0_behind 38 = .ok (.getfield 13, 3) := by decide +kernel
theorem dX0_behind_41 : decode cX0_behind 41 = .ok (.iload_n 1, 1) := by decide +kernel
theorem dX0_behind_42 : decode cX0_behind 42 = .ok (.iaload, 1) := by decide +kernel
theorem dX0_behind_43 : decode cX0_behind 43 = .ok (.invokevirtual 90, 3) := by decide +kernel
theorem dX0_behind_46 : decode cX0_behind 46 = .ok (.ifCond .ne 17, 3) := by decide +kernel
theorem dX0_behind_49 : decode cX0_behind 49 = .ok (.aload_n 0, 1) := by decide +kernel
theorem dX0_behind_50 : decode cX0_behind 50 = .ok (.iload_n 1, 1) := by decide +kernel
theorem dX0_behind_51 : decode cX0_behind 51 = .ok (.aload_n 0, 1) := by decide +kernel
theorem dX0_behind_52 : decode cX0_behind 52 = .ok (.getfield 13, 3) := by decide +kernel
theorem dX0_behind_55 : decode cX0_behind 55 = .ok (.iload_n 2, 1) := by decide +kernel
theorem dX0_behind_56 : decode cX0_behind 56 = .ok (.iaload, 1) := by decide +kernel
theorem dX0_behind_57 : decode cX0_behind 57 = .ok (.invokevirtual 90, 3) := by decide +kernel
theorem dX0_behind_60 : decode cX0_behind 60 = .ok (.ifCond .eq 7, 3) := by decide +kernel
theorem dX0_behind_63 : decode cX0_behind 63 = .ok (.iconst 1, 1) := by decide +kernel
theorem dX0_behind_64 : decode cX0_behind 64 = .ok (.goto 4, 3) := by decide +kernel
theorem dX0_behind_67 : decode cX0_behind 67 = .ok (.iconst 0, 1) := by decide +kernel
theorem dX0_behind_68 : decode cX0_behind 68 = .ok (.ireturn, 1) := by decide +kernel
abbrev cX0_fence : ByteArray := prog_1_method_18_code
def yX0_fence : MethodName := ⟨RX0, "fence", "(I)Z"⟩
theorem dX0_fence_0 : decode cX0_fence 0 = .ok (.aload_n 0, 1) := by decide +kernel
theorem dX0_fence_1 : decode cX0_fence 1 = .ok (.getfield 7, 3) := by decide +kernel
theorem dX0_fence_4 : decode cX0_fence 4 = .ok (.iload_n 1, 1) := by decide +kernel
theorem dX0_fence_5 : decode cX0_fence 5 = .ok (.iaload, 1) := by decide +kernel
theorem dX0_fence_6 : decode cX0_fence 6 = .ok (.iconst 3, 1) := by decide +kernel
theorem dX0_fence_7 : decode cX0_fence 7 = .ok (.if_icmp .lt 7, 3) := by decide +kernel
theorem dX0_fence_10 : decode cX0_fence 10 = .ok (.iconst 1, 1) := by decide +kernel
theorem dX0_fence_11 : decode cX0_fence 11 = .ok (.goto 4, 3) := by decide +kernel
theorem dX0_fence_14 : decode cX0_fence 14 = .ok (.iconst 0, 1) := by decide +kernel
theorem dX0_fence_15 : decode cX0_fence 15 = .ok (.ireturn, 1) := by decide +kernel
abbrev cX0_reads : ByteArray := prog_1_method_19_code
def yX0_reads : MethodName := ⟨RX0, "reads", "(II)Z"⟩
theorem dX0_reads_0 : decode cX0_reads 0 = .ok (.aload_n 0, 1) := by decide +kernel
theorem dX0_reads_1 : decode cX0_reads 1 = .ok (.getfield 16, 3) := by decide +kernel
theorem dX0_reads_4 : decode cX0_reads 4 = .ok (.iload_n 1, 1) := by decide +kernel
theorem dX0_reads_5 : decode cX0_reads 5 = .ok (.iaload, 1) := by decide +kernel
theorem dX0_reads_6 : decode cX0_reads 6 = .ok (.iload_n 2, 1) := by decide +kernel
theorem dX0_reads_7 : decode cX0_reads 7 = .ok (.if_icmp .eq 13, 3) := by decide +kernel
theorem dX0_reads_10 : decode cX0_reads 10 = .ok (.aload_n 0, 1) := by decide +kernel
theorem dX0_reads_11 : decode cX0_reads 11 = .ok (.getfield 19, 3) := by decide +kernel
theorem dX0_reads_14 : decode cX0_reads 14 = .ok (.iload_n 1, 1) := by decide +kernel
theorem dX0_reads_15 : decode cX0_reads 15 = .ok (.iaload, 1) := by decide +kernel
theorem dX0_reads_16 : decode cX0_reads 16 = .ok (.iload_n 2, 1) := by decide +kernel
theorem dX0_reads_17 : decode cX0_reads 17 = .ok (.if_icmp .ne 7, 3) := by decide +kernel
theorem dX0_reads_20 : decode cX0_reads 20 = .ok (.iconst 1, 1) := by decide +kernel
theorem dX0_reads_21 : decode cX0_reads 21 = .ok (.goto 4, 3) := by decide +kernel
theorem dX0_reads_24 : decode cX0_reads 24 = .ok (.iconst 0, 1) := by decide +kernel
theorem dX0_reads_25 : decode cX0_reads 25 = .ok (.ireturn, 1) := by decide +kernel
abbrev cX0_putForward : ByteArray := prog_1_method_23_code
def yX0_putForward : MethodName := ⟨RX0, "putForward", "(I)V"⟩
theorem dX0_putForward_0 : decode cX0_putForward 0 = .ok (.bipush 14, 2) := by decide +kernel
theorem dX0_putForward_2 : decode cX0_putForward 2 = .ok (.iload_n 1, 1) := by decide +kernel
theorem dX0_putForward_3 : decode cX0_putForward 3 = .ok (.iadd, 1) := by decide +kernel
theorem dX0_putForward_4 : decode cX0_putForward 4 = .ok (.istore_n 2, 1) := by decide +kernel
theorem dX0_putForward_5 : decode cX0_putForward 5 = .ok (.aload_n 0, 1) := by decide +kernel
theorem dX0_putForward_6 : decode cX0_putForward 6 = .ok (.getfield 35, 3) := by decide +kernel
theorem dX0_putForward_9 : decode cX0_putForward 9 = .ok (.iload_n 2, 1) := by decide +kernel
theorem dX0_putForward_10 : decode cX0_putForward 10 = .ok (.iconst 1, 1) := by decide +kernel
theorem dX0_putForward_11 : decode cX0_putForward 11 = .ok (.bastore, 1) := by decide +kernel
theorem dX0_putForward_12 : decode cX0_putForward 12 = .ok (.aload_n 0, 1) := by decide +kernel
theorem dX0_putForward_13 : decode cX0_putForward 13 = .ok (.getfield 38, 3) := by decide +kernel
theorem dX0_putForward_16 : decode cX0_putForward 16 = .ok (.iload_n 1, 1) := by decide +kernel
theorem dX0_putForward_17 : decode cX0_putForward 17 = .ok (.aload_n 0, 1) := by decide +kernel
theorem dX0_putForward_18 : decode cX0_putForward 18 = .ok (.getfield 38, 3) := by decide +kernel
theorem dX0_putForward_21 : decode cX0_putForward 21 = .ok (.iload_n 1, 1) := by decide +kernel
theorem dX0_putForward_22 : decode cX0_putForward 22 = .ok (.iaload, 1) := by decide +kernel
theorem dX0_putForward_23 : decode cX0_putForward 23 = .ok (.iconst 1, 1) := by decide +kernel
theorem dX0_putForward_24 : decode cX0_putForward 24 = .ok (.iload_n 2, 1) := by decide +kernel
theorem dX0_putForward_25 : decode cX0_putForward 25 = .ok (.ishl, 1) := by decide +kernel
theorem dX0_putForward_26 : decode cX0_putForward 26 = .ok (.ior, 1) := by decide +kernel
theorem dX0_putForward_27 : decode cX0_putForward 27 = .ok (.iastore, 1) := by decide +kernel
theorem dX0_putForward_28 : decode cX0_putForward 28 = .ok (.aload_n 0, 1) := by decide +kernel
theorem dX0_putForward_29 : decode cX0_putForward 29 = .ok (.getfield 50, 3) := by decide +kernel
theorem dX0_putForward_32 : decode cX0_putForward 32 = .ok (.iload_n 1, 1) := by decide +kernel
theorem dX0_putForward_33 : decode cX0_putForward 33 = .ok (.iconst (-1), 1) := by decide +kernel
theorem dX0_putForward_34 : decode cX0_putForward 34 = .ok (.iastore, 1) := by decide +kernel
theorem dX0_putForward_35 : decode cX0_putForward 35 = .ok (.aload_n 0, 1) := by decide +kernel
theorem dX0_putForward_36 : decode cX0_putForward 36 = .ok (.iload_n 1, 1) := by decide +kernel
theorem dX0_putForward_37 : decode cX0_putForward 37 = .ok (.aload_n 0, 1) := by decide +kernel
theorem dX0_putForward_38 : decode cX0_putForward 38 = .ok (.getfield 16, 3) := by decide +kernel
theorem dX0_putForward_41 : decode cX0_putForward 41 = .ok (.iload_n 1, 1) := by decide +kernel
theorem dX0_putForward_42 : decode cX0_putForward 42 = .ok (.iaload, 1) := by decide +kernel
theorem dX0_putForward_43 : decode cX0_putForward 43 = .ok (.invokevirtual 101, 3) := by decide +kernel
theorem dX0_putForward_46 : decode cX0_putForward 46 = .ok (.istore_n 3, 1) := by decide +kernel
theorem dX0_putForward_47 : decode cX0_putForward 47 = .ok (.iload_n 3, 1) := by decide +kernel
theorem dX0_putForward_48 : decode cX0_putForward 48 = .ok (.ifCond .lt 35, 3) := by decide +kernel
theorem dX0_putForward_51 : decode cX0_putForward 51 = .ok (.aload_n 0, 1) := by decide +kernel
theorem dX0_putForward_52 : decode cX0_putForward 52 = .ok (.getfield 7, 3) := by decide +kernel
theorem dX0_putForward_55 : decode cX0_putForward 55 = .ok (.iload_n 3, 1) := by decide +kernel
theorem dX0_putForward_56 : decode cX0_putForward 56 = .ok (.iaload, 1) := by decide +kernel
theorem dX0_putForward_57 : decode cX0_putForward 57 = .ok (.iconst 3, 1) := by decide +kernel
theorem dX0_putForward_58 : decode cX0_putForward 58 = .ok (.if_icmp .ne 25, 3) := by decide +kernel
theorem dX0_putForward_61 : decode cX0_putForward 61 = .ok (.aload_n 0, 1) := by decide +kernel
theorem dX0_putForward_62 : decode cX0_putForward 62 = .ok (.getfield 50, 3) := by decide +kernel
theorem dX0_putForward_65 : decode cX0_putForward 65 = .ok (.iload_n 1, 1) := by decide +kernel
theorem dX0_putForward_66 : decode cX0_putForward 66 = .ok (.iload_n 3, 1) := by decide +kernel
theorem dX0_putForward_67 : decode cX0_putForward 67 = .ok (.iastore, 1) := by decide +kernel
theorem dX0_putForward_68 : decode cX0_putForward 68 = .ok (.aload_n 0, 1) := by decide +kernel
theorem dX0_putForward_69 : decode cX0_putForward 69 = .ok (.getfield 38, 3) := by decide +kernel
theorem dX0_putForward_72 : decode cX0_putForward 72 = .ok (.iload_n 2, 1) := by decide +kernel
theorem dX0_putForward_73 : decode cX0_putForward 73 = .ok (.iconst 1, 1) := by decide +kernel
theorem dX0_putForward_74 : decode cX0_putForward 74 = .ok (.bipush 14, 2) := by decide +kernel
theorem dX0_putForward_76 : decode cX0_putForward 76 = .ok (.iload_n 3, 1) := by decide +kernel
theorem dX0_putForward_77 : decode cX0_putForward 77 = .ok (.iadd, 1) := by decide +kernel
theorem dX0_putForward_78 : decode cX0_putForward 78 = .ok (.ishl, 1) := by decide +kernel
theorem dX0_putForward_79 : decode cX0_putForward 79 = .ok (.iastore, 1) := by decide +kernel
theorem dX0_putForward_80 : decode cX0_putForward 80 = .ok (.goto 16, 3) := by decide +kernel
theorem dX0_putForward_83 : decode cX0_putForward 83 = .ok (.iload_n 3, 1) := by decide +kernel
theorem dX0_putForward_84 : decode cX0_putForward 84 = .ok (.ifCond .lt 12, 3) := by decide +kernel
theorem dX0_putForward_87 : decode cX0_putForward 87 = .ok (.aload_n 0, 1) := by decide +kernel
theorem dX0_putForward_88 : decode cX0_putForward 88 = .ok (.getfield 38, 3) := by decide +kernel
theorem dX0_putForward_91 : decode cX0_putForward 91 = .ok (.iload_n 2, 1) := by decide +kernel
theorem dX0_putForward_92 : decode cX0_putForward 92 = .ok (.iconst 1, 1) := by decide +kernel
theorem dX0_putForward_93 : decode cX0_putForward 93 = .ok (.iload_n 3, 1) := by decide +kernel
theorem dX0_putForward_94 : decode cX0_putForward 94 = .ok (.ishl, 1) := by decide +kernel
theorem dX0_putForward_95 : decode cX0_putForward 95 = .ok (.iastore, 1) := by decide +kernel
theorem dX0_putForward_96 : decode cX0_putForward 96 = .ok (.return_, 1) := by decide +kernel
abbrev cX0_writerBefore : ByteArray := prog_1_method_21_code
def yX0_writerBefore : MethodName := ⟨RX0, "writerBefore", "(II)I"⟩
theorem dX0_writerBefore_0 : decode cX0_writerBefore 0 = .ok (.iconst (-1), 1) := by decide +kernel
theorem dX0_writerBefore_1 : decode cX0_writerBefore 1 = .ok (.istore_n 3, 1) := by decide +kernel
theorem dX0_writerBefore_2 : decode cX0_writerBefore 2 = .ok (.iconst 0, 1) := by decide +kernel
theorem dX0_writerBefore_3 : decode cX0_writerBefore 3 = .ok (.istore 4, 2) := by decide +kernel
theorem dX0_writerBefore_5 : decode cX0_writerBefore 5 = .ok (.iload 4, 2) := by decide +kernel
theorem dX0_writerBefore_7 : decode cX0_writerBefore 7 = .ok (.iload_n 1, 1) := by decide +kernel
theorem dX0_writerBefore_8 : decode cX0_writerBefore 8 = .ok (.if_icmp .ge 23, 3) := by decide +kernel
theorem dX0_writerBefore_11 : decode cX0_writerBefore 11 = .ok (.aload_n 0, 1) := by decide +kernel
theorem dX0_writerBefore_12 : decode cX0_writerBefore 12 = .ok (.getfield 13, 3) := by decide +kernel
theorem dX0_writerBefore_15 : decode cX0_writerBefore 15 = .ok (.iload 4, 2) := by decide +kernel
theorem dX0_writerBefore_17 : decode cX0_writerBefore 17 = .ok (.iaload, 1) := by decide +kernel
theorem dX0_writerBefore_18 : decode cX0_writerBefore 18 = .ok (.iload_n 2, 1) := by decide +kernel
theorem dX0_writerBefore_19 : decode cX0_writerBefore 19 = .ok (.if_icmp .ne 6, 3) := by decide +kernel
theorem dX0_writerBefore_22 : decode cX0_writerBefore 22 = .ok (.iload 4, 2) := by decide +kernel
theorem dX0_writerBefore_24 : decode cX0_writerBefore 24 = .ok (.istore_n 3, 1) := by decide +kernel
theorem dX0_writerBefore_25 : decode cX0_writerBefore 25 = .ok (.iinc 4 1, 3) := by decide +kernel
theorem dX0_writerBefore_28 : decode cX0_writerBefore 28 = .ok (.goto (-23), 3) := by decide +kernel
theorem dX0_writerBefore_31 : decode cX0_writerBefore 31 = .ok (.iload_n 3, 1) := by decide +kernel
theorem dX0_writerBefore_32 : decode cX0_writerBefore 32 = .ok (.ireturn, 1) := by decide +kernel
abbrev cX0_measure : ByteArray := prog_1_method_25_code
def yX0_measure : MethodName := ⟨RX0, "measure", "()V"⟩
theorem dX0_measure_0 : decode cX0_measure 0 = .ok (.iconst 0, 1) := by decide +kernel
theorem dX0_measure_1 : decode cX0_measure 1 = .ok (.istore_n 1, 1) := by decide +kernel
theorem dX0_measure_2 : decode cX0_measure 2 = .ok (.iload_n 1, 1) := by decide +kernel
theorem dX0_measure_3 : decode cX0_measure 3 = .ok (.bipush 28, 2) := by decide +kernel
theorem dX0_measure_5 : decode cX0_measure 5 = .ok (.if_icmp .ge 43, 3) := by decide +kernel
theorem dX0_measure_8 : decode cX0_measure 8 = .ok (.iconst 0, 1) := by decide +kernel
theorem dX0_measure_9 : decode cX0_measure 9 = .ok (.istore_n 2, 1) := by decide +kernel
theorem dX0_measure_10 : decode cX0_measure 10 = .ok (.iload_n 2, 1) := by decide +kernel
theorem dX0_measure_11 : decode cX0_measure 11 = .ok (.bipush 28, 2) := by decide +kernel
theorem dX0_measure_13 : decode cX0_measure 13 = .ok (.if_icmp .ge 29, 3) := by decide +kernel
theorem dX0_measure_16 : decode cX0_measure 16 = .ok (.aload_n 0, 1) := by decide +kernel
theorem dX0_measure_17 : decode cX0_measure 17 = .ok (.getfield 35, 3) := by decide +kernel
theorem dX0_measure_20 : decode cX0_measure 20 = .ok (.iload_n 2, 1) := by decide +kernel
theorem dX0_measure_21 : decode cX0_measure 21 = .ok (.baload, 1) := by decide +kernel
theorem dX0_measure_22 : decode cX0_measure 22 = .ok (.ifCond .eq 14, 3) := by decide +kernel
theorem dX0_measure_25 : decode cX0_measure 25 = .ok (.aload_n 0, 1) := by decide +kernel
theorem dX0_measure_26 : decode cX0_measure 26 = .ok (.getfield 41, 3) := by decide +kernel
theorem dX0_measure_29 : decode cX0_measure 29 = .ok (.iload_n 2, 1) := by decide +kernel
theorem dX0_measure_30 : decode cX0_measure 30 = .ok (.aload_n 0, 1) := by decide +kernel
theorem dX0_measure_31 : decode cX0_measure 31 = .ok (.iload_n 2, 1) := by decide +kernel
theorem dX0_measure_32 : decode cX0_measure 32 = .ok (.invokevirtual 105, 3) := by decide +kernel
theorem dX0_measure_35 : decode cX0_measure 35 = .ok (.iastore, 1) := by decide +kernel
theorem dX0_measure_36 : decode cX0_measure 36 = .ok (.iinc 2 1, 3) := by decide +kernel
theorem dX0_measure_39 : decode cX0_measure 39 = .ok (.goto (-29), 3) := by decide +kernel
theorem dX0_measure_42 : decode cX0_measure 42 = .ok (.iinc 1 1, 3) := by decide +kernel
theorem dX0_measure_45 : decode cX0_measure 45 = .ok (.goto (-43), 3) := by decide +kernel
theorem dX0_measure_48 : decode cX0_measure 48 = .ok (.return_, 1) := by decide +kernel
abbrev cX0_heightOf : ByteArray := prog_1_method_26_code
def yX0_heightOf : MethodName := ⟨RX0, "heightOf", "(I)I"⟩
theorem dX0_heightOf_0 : decode cX0_heightOf 0 = .ok (.iconst 0, 1) := by decide +kernel
theorem dX0_heightOf_1 : decode cX0_heightOf 1 = .ok (.istore_n 2, 1) := by decide +kernel
theorem dX0_heightOf_2 : decode cX0_heightOf 2 = .ok (.iconst 0, 1) := by decide +kernel
theorem dX0_heightOf_3 : decode cX0_heightOf 3 = .ok (.istore_n 3, 1) := by decide +kernel
theorem dX0_heightOf_4 : decode cX0_heightOf 4 = .ok (.iload_n 3, 1) := by decide +kernel
theorem dX0_heightOf_5 : decode cX0_heightOf 5 = .ok (.bipush 28, 2) := by decide +kernel
theorem dX0_heightOf_7 : decode cX0_heightOf 7 = .ok (.if_icmp .ge 49, 3) := by decide +kernel
theorem dX0_heightOf_10 : decode cX0_heightOf 10 = .ok (.aload_n 0, 1) := by decide +kernel
theorem dX0_heightOf_11 : decode cX0_heightOf 11 = .ok (.getfield 35, 3) := by decide +kernel
theorem dX0_heightOf_14 : decode cX0_heightOf 14 = .ok (.iload_n 3, 1) := by decide +kernel
theorem dX0_heightOf_15 : decode cX0_heightOf 15 = .ok (.baload, 1) := by decide +kernel
theorem dX0_heightOf_16 : decode cX0_heightOf 16 = .ok (.ifCond .eq 34, 3) := by decide +kernel
theorem dX0_heightOf_19 : decode cX0_heightOf 19 = .ok (.aload_n 0, 1) := by decide +kernel
theorem dX0_heightOf_20 : decode cX0_heightOf 20 = .ok (.getfield 38, 3) := by decide +kernel
theorem dX0_heightOf_23 : decode cX0_heightOf 23 = .ok (.iload_n 3, 1) := by decide +kernel
theorem dX0_heightOf_24 : decode cX0_heightOf 24 = .ok (.iaload, 1) := by decide +kernel
theorem dX0_heightOf_25 : decode cX0_heightOf 25 = .ok (.iload_n 1, 1) := by decide +kernel
theorem dX0_heightOf_26 : decode cX0_heightOf 26 = .ok (.ishr, 1) := by decide +kernel
theorem dX0_heightOf_27 : decode cX0_heightOf 27 = .ok (.iconst 1, 1) := by decide +kernel
theorem dX0_heightOf_28 : decode cX0_heightOf 28 = .ok (.iand, 1) := by decide +kernel
theorem dX0_heightOf_29 : decode cX0_heightOf 29 = .ok (.iconst 1, 1) := by decide +kernel
theorem dX0_heightOf_30 : decode cX0_heightOf 30 = .ok (.if_icmp .ne 20, 3) := by decide +kernel
theorem dX0_heightOf_33 : decode cX0_heightOf 33 = .ok (.aload_n 0, 1) := by decide +kernel
theorem dX0_heightOf_34 : decode cX0_heightOf 34 = .ok (.getfield 41, 3) := by decide +kernel
theorem dX0_heightOf_37 : decode cX0_heightOf 37 = .ok (.iload_n 3, 1) := by decide +kernel
theorem dX0_heightOf_38 : decode cX0_heightOf 38 = .ok (.iaload, 1) := by decide +kernel
theorem dX0_heightOf_39 : decode cX0_heightOf 39 = .ok (.iload_n 2, 1) := by decide +kernel
theorem dX0_heightOf_40 : decode cX0_heightOf 40 = .ok (.if_icmp .le 10, 3) := by decide +kernel
theorem dX0_heightOf_43 : decode cX0_heightOf 43 = .ok (.aload_n 0, 1) := by decide +kernel
theorem dX0_heightOf_44 : decode cX0_heightOf 44 = .ok (.getfield 41, 3) := by decide +kernel
theorem dX0_heightOf_47 : decode cX0_heightOf 47 = .ok (.iload_n 3, 1) := by decide +kernel
theorem dX0_heightOf_48 : decode cX0_heightOf 48 = .ok (.iaload, 1) := by decide +kernel
theorem dX0_heightOf_49 : decode cX0_heightOf 49 = .ok (.istore_n 2, 1) := by decide +kernel
theorem dX0_heightOf_50 : decode cX0_heightOf 50 = .ok (.iinc 3 1, 3) := by decide +kernel
theorem dX0_heightOf_53 : decode cX0_heightOf 53 = .ok (.goto (-49), 3) := by decide +kernel
theorem dX0_heightOf_56 : decode cX0_heightOf 56 = .ok (.iload_n 2, 1) := by decide +kernel
theorem dX0_heightOf_57 : decode cX0_heightOf 57 = .ok (.aload_n 0, 1) := by decide +kernel
theorem dX0_heightOf_58 : decode cX0_heightOf 58 = .ok (.iload_n 1, 1) := by decide +kernel
theorem dX0_heightOf_59 : decode cX0_heightOf 59 = .ok (.invokevirtual 109, 3) := by decide +kernel
theorem dX0_heightOf_62 : decode cX0_heightOf 62 = .ok (.iadd, 1) := by decide +kernel
theorem dX0_heightOf_63 : decode cX0_heightOf 63 = .ok (.ireturn, 1) := by decide +kernel
abbrev cX0_latency : ByteArray := prog_1_method_24_code
def yX0_latency : MethodName := ⟨RX0, "latency", "(I)I"⟩
theorem dX0_latency_0 : decode cX0_latency 0 = .ok (.iload_n 1, 1) := by decide +kernel
theorem dX0_latency_1 : decode cX0_latency 1 = .ok (.bipush 14, 2) := by decide +kernel
theorem dX0_latency_3 : decode cX0_latency 3 = .ok (.if_icmp .lt 7, 3) := by decide +kernel
theorem dX0_latency_6 : decode cX0_latency 6 = .ok (.iconst 3, 1) := by decide +kernel
theorem dX0_latency_7 : decode cX0_latency 7 = .ok (.goto 4, 3) := by decide +kernel
theorem dX0_latency_10 : decode cX0_latency 10 = .ok (.iconst 1, 1) := by decide +kernel
theorem dX0_latency_11 : decode cX0_latency 11 = .ok (.ireturn, 1) := by decide +kernel
abbrev cX0_issueOne : ByteArray := prog_1_method_28_code
def yX0_issueOne : MethodName := ⟨RX0, "issueOne", "(I)V"⟩
theorem dX0_issueOne_0 : decode cX0_issueOne 0 = .ok (.iconst (-1), 1) := by decide +kernel
theorem dX0_issueOne_1 : decode cX0_issueOne 1 = .ok (.istore_n 2, 1) := by decide +kernel
theorem dX0_issueOne_2 : decode cX0_issueOne 2 = .ok (.iconst 0, 1) := by decide +kernel
theorem dX0_issueOne_3 : decode cX0_issueOne 3 = .ok (.istore_n 3, 1) := by decide +kernel
theorem dX0_issueOne_4 : decode cX0_issueOne 4 = .ok (.iload_n 3, 1) := by decide +kernel
theorem dX0_issueOne_5 : decode cX0_issueOne 5 = .ok (.bipush 28, 2) := by decide +kernel
theorem dX0_issueOne_7 : decode cX0_issueOne 7 = .ok (.if_icmp .ge 43, 3) := by decide +kernel
theorem dX0_issueOne_10 : decode cX0_issueOne 10 = .ok (.aload_n 0, 1) := by decide +kernel
theorem dX0_issueOne_11 : decode cX0_issueOne 11 = .ok (.iload_n 3, 1) := by decide +kernel
theorem dX0_issueOne_12 : decode cX0_issueOne 12 = .ok (.iload_n 1, 1) := by decide +kernel
theorem dX0_issueOne_13 : decode cX0_issueOne 13 = .ok (.invokevirtual 112, 3) := by decide +kernel
theorem dX0_issueOne_16 : decode cX0_issueOne 16 = .ok (.istore 4, 2) := by decide +kernel
theorem dX0_issueOne_18 : decode cX0_issueOne 18 = .ok (.iload 4, 2) := by decide +kernel
theorem dX0_issueOne_20 : decode cX0_issueOne 20 = .ok (.ifCond .eq 24, 3) := by decide +kernel
theorem dX0_issueOne_23 : decode cX0_issueOne 23 = .ok (.iload_n 2, 1) := by decide +kernel
theorem dX0_issueOne_24 : decode cX0_issueOne 24 = .ok (.ifCond .lt 18, 3) := by decide +kernel
theorem dX0_issueOne_27 : decode cX0_issueOne 27 = .ok (.aload_n 0, 1) := by decide +kernel
theorem dX0_issueOne_28 : decode cX0_issueOne 28 = .ok (.getfield 41, 3) := by decide +kernel
theorem dX0_issueOne_31 : decode cX0_issueOne 31 = .ok (.iload_n 3, 1) := by decide +kernel
theorem dX0_issueOne_32 : decode cX0_issueOne 32 = .ok (.iaload, 1) := by decide +kernel
theorem dX0_issueOne_33 : decode cX0_issueOne 33 = .ok (.aload_n 0, 1) := by decide +kernel
theorem dX0_issueOne_34 : decode cX0_issueOne 34 = .ok (.getfield 41, 3) := by decide +kernel
theorem dX0_issueOne_37 : decode cX0_issueOne 37 = .ok (.iload_n 2, 1) := by decide +kernel
theorem dX0_issueOne_38 : decode cX0_issueOne 38 = .ok (.iaload, 1) := by decide +kernel
theorem dX0_issueOne_39 : decode cX0_issueOne 39 = .ok (.if_icmp .le 5, 3) := by decide +kernel
theorem dX0_issueOne_42 : decode cX0_issueOne 42 = .ok (.iload_n 3, 1) := by decide +kernel
theorem dX0_issueOne_43 : decode cX0_issueOne 43 = .ok (.istore_n 2, 1) := by decide +kernel
theorem dX0_issueOne_44 : decode cX0_issueOne 44 = .ok (.iinc 3 1, 3) := by decide +kernel
theorem dX0_issueOne_47 : decode cX0_issueOne 47 = .ok (.goto (-43), 3) := by decide +kernel
theorem dX0_issueOne_50 : decode cX0_issueOne 50 = .ok (.iload_n 2, 1) := by decide +kernel
theorem dX0_issueOne_51 : decode cX0_issueOne 51 = .ok (.ifCond .lt 30, 3) := by decide +kernel
theorem dX0_issueOne_54 : decode cX0_issueOne 54 = .ok (.aload_n 0, 1) := by decide +kernel
theorem dX0_issueOne_55 : decode cX0_issueOne 55 = .ok (.getfield 44, 3) := by decide +kernel
theorem dX0_issueOne_58 : decode cX0_issueOne 58 = .ok (.iload_n 2, 1) := by decide +kernel
theorem dX0_issueOne_59 : decode cX0_issueOne 59 = .ok (.iload_n 1, 1) := by decide +kernel
theorem dX0_issueOne_60 : decode cX0_issueOne 60 = .ok (.iastore, 1) := by decide +kernel
theorem dX0_issueOne_61 : decode cX0_issueOne 61 = .ok (.aload_n 0, 1) := by decide +kernel
theorem dX0_issueOne_62 : decode cX0_issueOne 62 = .ok (.getfield 47, 3) := by decide +kernel
theorem dX0_issueOne_65 : decode cX0_issueOne 65 = .ok (.aload_n 0, 1) := by decide +kernel
theorem dX0_issueOne_66 : decode cX0_issueOne 66 = .ok (.getfield 115, 3) := by decide +kernel
theorem dX0_issueOne_69 : decode cX0_issueOne 69 = .ok (.iload_n 2, 1) := by decide +kernel
theorem dX0_issueOne_70 : decode cX0_issueOne 70 = .ok (.iastore, 1) := by decide +kernel
theorem dX0_issueOne_71 : decode cX0_issueOne 71 = .ok (.aload_n 0, 1) := by decide +kernel
theorem dX0_issueOne_72 : decode cX0_issueOne 72 = .ok (.dup, 1) := by decide +kernel
theorem dX0_issueOne_73 : decode cX0_issueOne 73 = .ok (.getfield 115, 3) := by decide +kernel
theorem dX0_issueOne_76 : decode cX0_issueOne 76 = .ok (.iconst 1, 1) := by decide +kernel
theorem dX0_issueOne_77 : decode cX0_issueOne 77 = .ok (.iadd, 1) := by decide +kernel
theorem dX0_issueOne_78 : decode cX0_issueOne 78 = .ok (.putfield 115, 3) := by decide +kernel
theorem dX0_issueOne_81 : decode cX0_issueOne 81 = .ok (.return_, 1) := by decide +kernel
abbrev cX0_mayIssue : ByteArray := prog_1_method_27_code
def yX0_mayIssue : MethodName := ⟨RX0, "mayIssue", "(II)Z"⟩
theorem dX0_mayIssue_0 : decode cX0_mayIssue 0 = .ok (.aload_n 0, 1) := by decide +kernel
theorem dX0_mayIssue_1 : decode cX0_mayIssue 1 = .ok (.getfield 35, 3) := by decide +kernel
theorem dX0_mayIssue_4 : decode cX0_mayIssue 4 = .ok (.iload_n 1, 1) := by decide +kernel
theorem dX0_mayIssue_5 : decode cX0_mayIssue 5 = .ok (.baload, 1) := by decide +kernel
theorem dX0_mayIssue_6 : decode cX0_mayIssue 6 = .ok (.ifCond .eq 12, 3) := by decide +kernel
theorem dX0_mayIssue_9 : decode cX0_mayIssue 9 = .ok (.aload_n 0, 1) := by decide +kernel
theorem dX0_mayIssue_10 : decode cX0_mayIssue 10 = .ok (.getfield 44, 3) := by decide +kernel
theorem dX0_mayIssue_13 : decode cX0_mayIssue 13 = .ok (.iload_n 1, 1) := by decide +kernel
theorem dX0_mayIssue_14 : decode cX0_mayIssue 14 = .ok (.iaload, 1) := by decide +kernel
theorem dX0_mayIssue_15 : decode cX0_mayIssue 15 = .ok (.ifCond .lt 5, 3) := by decide +kernel
theorem dX0_mayIssue_18 : decode cX0_mayIssue 18 = .ok (.iconst 0, 1) := by decide +kernel
theorem dX0_mayIssue_19 : decode cX0_mayIssue 19 = .ok (.ireturn, 1) := by decide +kernel
theorem dX0_mayIssue_20 : decode cX0_mayIssue 20 = .ok (.iconst 1, 1) := by decide +kernel
theorem dX0_mayIssue_21 : decode cX0_mayIssue 21 = .ok (.istore_n 3, 1) := by decide +kernel
theorem dX0_mayIssue_22 : decode cX0_mayIssue 22 = .ok (.iconst 0, 1) := by decide +kernel
theorem dX0_mayIssue_23 : decode cX0_mayIssue 23 = .ok (.istore 4, 2) := by decide +kernel
theorem dX0_mayIssue_25 : decode cX0_mayIssue 25 = .ok (.iload 4, 2) := by decide +kernel
theorem dX0_mayIssue_27 : decode cX0_mayIssue 27 = .ok (.bipush 28, 2) := by decide +kernel
theorem dX0_mayIssue_29 : decode cX0_mayIssue 29 = .ok (.if_icmp .ge 74, 3) := by decide +kernel
theorem dX0_mayIssue_32 : decode cX0_mayIssue 32 = .ok (.aload_n 0, 1) := by decide +kernel
theorem dX0_mayIssue_33 : decode cX0_mayIssue 33 = .ok (.getfield 38, 3) := by decide +kernel
theorem dX0_mayIssue_36 : decode cX0_mayIssue 36 = .ok (.iload_n 1, 1) := by decide +kernel
theorem dX0_mayIssue_37 : decode cX0_mayIssue 37 = .ok (.iaload, 1) := by decide +kernel
theorem dX0_mayIssue_38 : decode cX0_mayIssue 38 = .ok (.iload 4, 2) := by decide +kernel
theorem dX0_mayIssue_40 : decode cX0_mayIssue 40 = .ok (.ishr, 1) := by decide +kernel
theorem dX0_mayIssue_41 : decode cX0_mayIssue 41 = .ok (.iconst 1, 1) := by decide +kernel
theorem dX0_mayIssue_42 : decode cX0_mayIssue 42 = .ok (.iand, 1) := by decide +kernel
theorem dX0_mayIssue_43 : decode cX0_mayIssue 43 = .ok (.iconst 1, 1) := by decide +kernel
theorem dX0_mayIssue_44 : decode cX0_mayIssue 44 = .ok (.if_icmp .ne 53, 3) := by decide +kernel
theorem dX0_mayIssue_47 : decode cX0_mayIssue 47 = .ok (.aload_n 0, 1) := by decide +kernel
theorem dX0_mayIssue_48 : decode cX0_mayIssue 48 = .ok (.getfield 44, 3) := by decide +kernel
theorem dX0_mayIssue_51 : decode cX0_mayIssue 51 = .ok (.iload 4, 2) := by decide +kernel
theorem dX0_mayIssue_53 : decode cX0_mayIssue 53 = .ok (.iaload, 1) := by decide +kernel
theorem dX0_mayIssue_54 : decode cX0_mayIssue 54 = .ok (.ifCond .lt 25, 3) := by decide +kernel
theorem dX0_mayIssue_57 : decode cX0_mayIssue 57 = .ok (.aload_n 0, 1) := by decide +kernel
theorem dX0_mayIssue_58 : decode cX0_mayIssue 58 = .ok (.getfield 44, 3) := by decide +kernel
theorem dX0_mayIssue_61 : decode cX0_mayIssue 61 = .ok (.iload 4, 2) := by decide +kernel
theorem dX0_mayIssue_63 : decode cX0_mayIssue 63 = .ok (.iaload, 1) := by decide +kernel
theorem dX0_mayIssue_64 : decode cX0_mayIssue 64 = .ok (.aload_n 0, 1) := by decide +kernel
theorem dX0_mayIssue_65 : decode cX0_mayIssue 65 = .ok (.iload 4, 2) := by decide +kernel
theorem dX0_mayIssue_67 : decode cX0_mayIssue 67 = .ok (.invokevirtual 109, 3) := by decide +kernel
theorem dX0_mayIssue_70 : decode cX0_mayIssue 70 = .ok (.iadd, 1) := by decide +kernel
theorem dX0_mayIssue_71 : decode cX0_mayIssue 71 = .ok (.iload_n 2, 1) := by decide +kernel
theorem dX0_mayIssue_72 : decode cX0_mayIssue 72 = .ok (.if_icmp .gt 7, 3) := by decide +kernel
theorem dX0_mayIssue_75 : decode cX0_mayIssue 75 = .ok (.iconst 1, 1) := by decide +kernel
theorem dX0_mayIssue_76 : decode cX0_mayIssue 76 = .ok (.goto 4, 3) := by decide +kernel
theorem dX0_mayIssue_79 : decode cX0_mayIssue 79 = .ok (.iconst 0, 1) := by decide +kernel
theorem dX0_mayIssue_80 : decode cX0_mayIssue 80 = .ok (.istore 5, 2) := by decide +kernel
theorem dX0_mayIssue_82 : decode cX0_mayIssue 82 = .ok (.iload_n 3, 1) := by decide +kernel
theorem dX0_mayIssue_83 : decode cX0_mayIssue 83 = .ok (.ifCond .eq 12, 3) := by decide +kernel
theorem dX0_mayIssue_86 : decode cX0_mayIssue 86 = .ok (.iload 5, 2) := by decide +kernel
theorem dX0_mayIssue_88 : decode cX0_mayIssue 88 = .ok (.ifCond .eq 7, 3) := by decide +kernel
theorem dX0_mayIssue_91 : decode cX0_mayIssue 91 = .ok (.iconst 1, 1) := by decide +kernel
theorem dX0_mayIssue_92 : decode cX0_mayIssue 92 = .ok (.goto 4, 3) := by decide +kernel
theorem dX0_mayIssue_95 : decode cX0_mayIssue 95 = .ok (.iconst 0, 1) := by decide +kernel
theorem dX0_mayIssue_96 : decode cX0_mayIssue 96 = .ok (.istore_n 3, 1) := by decide +kernel
theorem dX0_mayIssue_97 : decode cX0_mayIssue 97 = .ok (.iinc 4 1, 3) := by decide +kernel
theorem dX0_mayIssue_100 : decode cX0_mayIssue 100 = .ok (.goto (-75), 3) := by decide +kernel
theorem dX0_mayIssue_103 : decode cX0_mayIssue 103 = .ok (.iload_n 3, 1) := by decide +kernel
theorem dX0_mayIssue_104 : decode cX0_mayIssue 104 = .ok (.ireturn, 1) := by decide +kernel
abbrev cX0_execute : ByteArray := prog_1_method_37_code
def yX0_execute : MethodName := ⟨RX0, "execute", "(I)I"⟩
theorem dX0_execute_0 : decode cX0_execute 0 = .ok (.iload_n 1, 1) := by decide +kernel
theorem dX0_execute_1 : decode cX0_execute 1 = .ok (.bipush 14, 2) := by decide +kernel
theorem dX0_execute_3 : decode cX0_execute 3 = .ok (.if_icmp .lt 13, 3) := by decide +kernel
theorem dX0_execute_6 : decode cX0_execute 6 = .ok (.aload_n 0, 1) := by decide +kernel
theorem dX0_execute_7 : decode cX0_execute 7 = .ok (.iload_n 1, 1) := by decide +kernel
theorem dX0_execute_8 : decode cX0_execute 8 = .ok (.bipush 14, 2) := by decide +kernel
theorem dX0_execute_10 : decode cX0_execute 10 = .ok (.isub, 1) := by decide +kernel
theorem dX0_execute_11 : decode cX0_execute 11 = .ok (.invokevirtual 143, 3) := by decide +kernel
theorem dX0_execute_14 : decode cX0_execute 14 = .ok (.iconst (-1), 1) := by decide +kernel
theorem dX0_execute_15 : decode cX0_execute 15 = .ok (.ireturn, 1) := by decide +kernel
theorem dX0_execute_16 : decode cX0_execute 16 = .ok (.aload_n 0, 1) := by decide +kernel
theorem dX0_execute_17 : decode cX0_execute 17 = .ok (.getfield 7, 3) := by decide +kernel
theorem dX0_execute_20 : decode cX0_execute 20 = .ok (.iload_n 1, 1) := by decide +kernel
theorem dX0_execute_21 : decode cX0_execute 21 = .ok (.iaload, 1) := by decide +kernel
theorem dX0_execute_22 : decode cX0_execute 22 = .ok (.istore_n 2, 1) := by decide +kernel
theorem dX0_execute_23 : decode cX0_execute 23 = .ok (.iload_n 2, 1) := by decide +kernel
theorem dX0_execute_24 : decode cX0_execute 24 = .ok (.iconst 3, 1) := by decide +kernel
theorem dX0_execute_25 : decode cX0_execute 25 = .ok (.if_icmp .ne 23, 3) := by decide +kernel
theorem dX0_execute_28 : decode cX0_execute 28 = .ok (.aload_n 0, 1) := by decide +kernel
theorem dX0_execute_29 : decode cX0_execute 29 = .ok (.iload_n 1, 1) := by decide +kernel
theorem dX0_execute_30 : decode cX0_execute 30 = .ok (.invokevirtual 146, 3) := by decide +kernel
theorem dX0_execute_33 : decode cX0_execute 33 = .ok (.istore_n 3, 1) := by decide +kernel
theorem dX0_execute_34 : decode cX0_execute 34 = .ok (.iload_n 3, 1) := by decide +kernel
theorem dX0_execute_35 : decode cX0_execute 35 = .ok (.ifCond .eq 7, 3) := by decide +kernel
theorem dX0_execute_38 : decode cX0_execute 38 = .ok (.iconst (-1), 1) := by decide +kernel
theorem dX0_execute_39 : decode cX0_execute 39 = .ok (.goto 8, 3) := by decide +kernel
theorem dX0_execute_42 : decode cX0_execute 42 = .ok (.iconst 2, 1) := by decide +kernel
theorem dX0_execute_43 : decode cX0_execute 43 = .ok (.iconst 4, 1) := by decide +kernel
theorem dX0_execute_44 : decode cX0_execute 44 = .ok (.iload_n 1, 1) := by decide +kernel
theorem dX0_execute_45 : decode cX0_execute 45 = .ok (.imul, 1) := by decide +kernel
theorem dX0_execute_46 : decode cX0_execute 46 = .ok (.iadd, 1) := by decide +kernel
theorem dX0_execute_47 : decode cX0_execute 47 = .ok (.ireturn, 1) := by decide +kernel
theorem dX0_execute_48 : decode cX0_execute 48 = .ok (.iload_n 2, 1) := by decide +kernel
theorem dX0_execute_49 : decode cX0_execute 49 = .ok (.iconst 4, 1) := by decide +kernel
theorem dX0_execute_50 : decode cX0_execute 50 = .ok (.if_icmp .ne 23, 3) := by decide +kernel
theorem dX0_execute_53 : decode cX0_execute 53 = .ok (.aload_n 0, 1) := by decide +kernel
theorem dX0_execute_54 : decode cX0_execute 54 = .ok (.iload_n 1, 1) := by decide +kernel
theorem dX0_execute_55 : decode cX0_execute 55 = .ok (.invokevirtual 149, 3) := by decide +kernel
theorem dX0_execute_58 : decode cX0_execute 58 = .ok (.istore_n 3, 1) := by decide +kernel
theorem dX0_execute_59 : decode cX0_execute 59 = .ok (.iload_n 3, 1) := by decide +kernel
theorem dX0_execute_60 : decode cX0_execute 60 = .ok (.ifCond .eq 7, 3) := by decide +kernel
theorem dX0_execute_63 : decode cX0_execute 63 = .ok (.iconst (-1), 1) := by decide +kernel
theorem dX0_execute_64 : decode cX0_execute 64 = .ok (.goto 8, 3) := by decide +kernel
theorem dX0_execute_67 : decode cX0_execute 67 = .ok (.iconst 2, 1) := by decide +kernel
theorem dX0_execute_68 : decode cX0_execute 68 = .ok (.iconst 4, 1) := by decide +kernel
theorem dX0_execute_69 : decode cX0_execute 69 = .ok (.iload_n 1, 1) := by decide +kernel
theorem dX0_execute_70 : decode cX0_execute 70 = .ok (.imul, 1) := by decide +kernel
theorem dX0_execute_71 : decode cX0_execute 71 = .ok (.iadd, 1) := by decide +kernel
theorem dX0_execute_72 : decode cX0_execute 72 = .ok (.ireturn, 1) := by decide +kernel
theorem dX0_execute_73 : decode cX0_execute 73 = .ok (.iload_n 2, 1) := by decide +kernel
theorem dX0_execute_74 : decode cX0_execute 74 = .ok (.iconst 5, 1) := by decide +kernel
theorem dX0_execute_75 : decode cX0_execute 75 = .ok (.if_icmp .ne 27, 3) := by decide +kernel
theorem dX0_execute_78 : decode cX0_execute 78 = .ok (.aload_n 0, 1) := by decide +kernel
theorem dX0_execute_79 : decode cX0_execute 79 = .ok (.getfield 25, 3) := by decide +kernel
theorem dX0_execute_82 : decode cX0_execute 82 = .ok (.aload_n 0, 1) := by decide +kernel
theorem dX0_execute_83 : decode cX0_execute 83 = .ok (.getfield 16, 3) := by decide +kernel
theorem dX0_execute_86 : decode cX0_execute 86 = .ok (.iload_n 1, 1) := by decide +kernel
theorem dX0_execute_87 : decode cX0_execute 87 = .ok (.iaload, 1) := by decide +kernel
theorem dX0_execute_88 : decode cX0_execute 88 = .ok (.iaload, 1) := by decide +kernel
theorem dX0_execute_89 : decode cX0_execute 89 = .ok (.ifCond .ne 7, 3) := by decide +kernel
theorem dX0_execute_92 : decode cX0_execute 92 = .ok (.iconst (-1), 1) := by decide +kernel
theorem dX0_execute_93 : decode cX0_execute 93 = .ok (.goto 8, 3) := by decide +kernel
theorem dX0_execute_96 : decode cX0_execute 96 = .ok (.iconst 1, 1) := by decide +kernel
theorem dX0_execute_97 : decode cX0_execute 97 = .ok (.iconst 4, 1) := by decide +kernel
theorem dX0_execute_98 : decode cX0_execute 98 = .ok (.iload_n 1, 1) := by decide +kernel
theorem dX0_execute_99 : decode cX0_execute 99 = .ok (.imul, 1) := by decide +kernel
theorem dX0_execute_100 : decode cX0_execute 100 = .ok (.iadd, 1) := by decide +kernel
theorem dX0_execute_101 : decode cX0_execute 101 = .ok (.ireturn, 1) := by decide +kernel
theorem dX0_execute_102 : decode cX0_execute 102 = .ok (.iload_n 2, 1) := by decide +kernel
theorem dX0_execute_103 : decode cX0_execute 103 = .ok (.ifCond .ne 23, 3) := by decide +kernel
theorem dX0_execute_106 : decode cX0_execute 106 = .ok (.aload_n 0, 1) := by decide +kernel
theorem dX0_execute_107 : decode cX0_execute 107 = .ok (.getfield 25, 3) := by decide +kernel
theorem dX0_execute_110 : decode cX0_execute 110 = .ok (.aload_n 0, 1) := by decide +kernel
theorem dX0_execute_111 : decode cX0_execute 111 = .ok (.getfield 13, 3) := by decide +kernel
theorem dX0_execute_114 : decode cX0_execute 114 = .ok (.iload_n 1, 1) := by decide +kernel
theorem dX0_execute_115 : decode cX0_execute 115 = .ok (.iaload, 1) := by decide +kernel
theorem dX0_execute_116 : decode cX0_execute 116 = .ok (.aload_n 0, 1) := by decide +kernel
theorem dX0_execute_117 : decode cX0_execute 117 = .ok (.getfield 22, 3) := by decide +kernel
theorem dX0_execute_120 : decode cX0_execute 120 = .ok (.iload_n 1, 1) := by decide +kernel
theorem dX0_execute_121 : decode cX0_execute 121 = .ok (.iaload, 1) := by decide +kernel
theorem dX0_execute_122 : decode cX0_execute 122 = .ok (.iastore, 1) := by decide +kernel
theorem dX0_execute_123 : decode cX0_execute 123 = .ok (.goto 79, 3) := by decide +kernel
theorem dX0_execute_126 : decode cX0_execute 126 = .ok (.iload_n 2, 1) := by decide +kernel
theorem dX0_execute_127 : decode cX0_execute 127 = .ok (.iconst 1, 1) := by decide +kernel
theorem dX0_execute_128 : decode cX0_execute 128 = .ok (.if_icmp .ne 40, 3) := by decide +kernel
theorem dX0_execute_131 : decode cX0_execute 131 = .ok (.aload_n 0, 1) := by decide +kernel
theorem dX0_execute_132 : decode cX0_execute 132 = .ok (.getfield 25, 3) := by decide +kernel
theorem dX0_execute_135 : decode cX0_execute 135 = .ok (.aload_n 0, 1) := by decide +kernel
theorem dX0_execute_136 : decode cX0_execute 136 = .ok (.getfield 13, 3) := by decide +kernel
theorem dX0_execute_139 : decode cX0_execute 139 = .ok (.iload_n 1, 1) := by decide +kernel
theorem dX0_execute_140 : decode cX0_execute 140 = .ok (.iaload, 1) := by decide +kernel
theorem dX0_execute_141 : decode cX0_execute 141 = .ok (.aload_n 0, 1) := by decide +kernel
theorem dX0_execute_142 : decode cX0_execute 142 = .ok (.getfield 25, 3) := by decide +kernel
theorem dX0_execute_145 : decode cX0_execute 145 = .ok (.aload_n 0, 1) := by decide +kernel
theorem dX0_execute_146 : decode cX0_execute 146 = .ok (.getfield 16, 3) := by decide +kernel
theorem dX0_execute_149 : decode cX0_execute 149 = .ok (.iload_n 1, 1) := by decide +kernel
theorem dX0_execute_150 : decode cX0_execute 150 = .ok (.iaload, 1) := by decide +kernel
theorem dX0_execute_151 : decode cX0_execute 151 = .ok (.iaload, 1) := by decide +kernel
theorem dX0_execute_152 : decode cX0_execute 152 = .ok (.aload_n 0, 1) := by decide +kernel
theorem dX0_execute_153 : decode cX0_execute 153 = .ok (.getfield 25, 3) := by decide +kernel
theorem dX0_execute_156 : decode cX0_execute 156 = .ok (.aload_n 0, 1) := by decide +kernel
theorem dX0_execute_157 : decode cX0_execute 157 = .ok (.getfield 19, 3) := by decide +kernel
theorem dX0_execute_160 : decode cX0_execute 160 = .ok (.iload_n 1, 1) := by decide +kernel
theorem dX0_execute_161 : decode cX0_execute 161 = .ok (.iaload, 1) := by decide +kernel
theorem dX0_execute_162 : decode cX0_execute 162 = .ok (.iaload, 1) := by decide +kernel
theorem dX0_execute_163 : decode cX0_execute 163 = .ok (.iadd, 1) := by decide +kernel
theorem dX0_execute_164 : decode cX0_execute 164 = .ok (.iastore, 1) := by decide +kernel
theorem dX0_execute_165 : decode cX0_execute 165 = .ok (.goto 37, 3) := by decide +kernel
theorem dX0_execute_168 : decode cX0_execute 168 = .ok (.aload_n 0, 1) := by decide +kernel
theorem dX0_execute_169 : decode cX0_execute 169 = .ok (.getfield 25, 3) := by decide +kernel
theorem dX0_execute_172 : decode cX0_execute 172 = .ok (.aload_n 0, 1) := by decide +kernel
theorem dX0_execute_173 : decode cX0_execute 173 = .ok (.getfield 13, 3) := by decide +kernel
theorem dX0_execute_176 : decode cX0_execute 176 = .ok (.iload_n 1, 1) := by decide +kernel
theorem dX0_execute_177 : decode cX0_execute 177 = .ok (.iaload, 1) := by decide +kernel
theorem dX0_execute_178 : decode cX0_execute 178 = .ok (.aload_n 0, 1) := by decide +kernel
theorem dX0_execute_179 : decode cX0_execute 179 = .ok (.getfield 25, 3) := by decide +kernel
theorem dX0_execute_182 : decode cX0_execute 182 = .ok (.aload_n 0, 1) := by decide +kernel
theorem dX0_execute_183 : decode cX0_execute 183 = .ok (.getfield 16, 3) := by decide +kernel
theorem dX0_execute_186 : decode cX0_execute 186 = .ok (.iload_n 1, 1) := by decide +kernel
theorem dX0_execute_187 : decode cX0_execute 187 = .ok (.iaload, 1) := by decide +kernel
theorem dX0_execute_188 : decode cX0_execute 188 = .ok (.iaload, 1) := by decide +kernel
theorem dX0_execute_189 : decode cX0_execute 189 = .ok (.aload_n 0, 1) := by decide +kernel
theorem dX0_execute_190 : decode cX0_execute 190 = .ok (.getfield 25, 3) := by decide +kernel
theorem dX0_execute_193 : decode cX0_execute 193 = .ok (.aload_n 0, 1) := by decide +kernel
theorem dX0_execute_194 : decode cX0_execute 194 = .ok (.getfield 19, 3) := by decide +kernel
theorem dX0_execute_197 : decode cX0_execute 197 = .ok (.iload_n 1, 1) := by decide +kernel
theorem dX0_execute_198 : decode cX0_execute 198 = .ok (.iaload, 1) := by decide +kernel
theorem dX0_execute_199 : decode cX0_execute 199 = .ok (.iaload, 1) := by decide +kernel
theorem dX0_execute_200 : decode cX0_execute 200 = .ok (.isub, 1) := by decide +kernel
theorem dX0_execute_201 : decode cX0_execute 201 = .ok (.iastore, 1) := by decide +kernel
theorem dX0_execute_202 : decode cX0_execute 202 = .ok (.iconst (-1), 1) := by decide +kernel
theorem dX0_execute_203 : decode cX0_execute 203 = .ok (.ireturn, 1) := by decide +kernel
end
section
set_option maxRecDepth 100000
abbrev cX0_loadEarly : ByteArray := prog_1_method_34_code
def yX0_loadEarly : MethodName := ⟨RX0, "loadEarly", "(I)V"⟩
theorem dX0_loadEarly_0 : decode cX0_loadEarly 0 = .ok (.aload_n 0, 1) := by decide +kernel
theorem dX0_loadEarly_1 : decode cX0_loadEarly 1 = .ok (.getfield 50, 3) := by decide +kernel
theorem dX0_loadEarly_4 : decode cX0_loadEarly 4 = .ok (.iload_n 1, 1) := by decide +kernel
theorem dX0_loadEarly_5 : decode cX0_loadEarly 5 = .ok (.iaload, 1) := by decide +kernel
theorem dX0_loadEarly_6 : decode cX0_loadEarly 6 = .ok (.istore_n 2, 1) := by decide +kernel
theorem dX0_loadEarly_7 : decode cX0_loadEarly 7 = .ok (.aload_n 0, 1) := by decide +kernel
theorem dX0_loadEarly_8 : decode cX0_loadEarly 8 = .ok (.getfield 56, 3) := by decide +kernel
theorem dX0_loadEarly_11 : decode cX0_loadEarly 11 = .ok (.iload_n 1, 1) := by decide +kernel
theorem dX0_loadEarly_12 : decode cX0_loadEarly 12 = .ok (.iconst 0, 1) := by decide +kernel
theorem dX0_loadEarly_13 : decode cX0_loadEarly 13 = .ok (.bastore, 1) := by decide +kernel
theorem dX0_loadEarly_14 : decode cX0_loadEarly 14 = .ok (.iload_n 2, 1) := by decide +kernel
theorem dX0_loadEarly_15 : decode cX0_loadEarly 15 = .ok (.ifCond .lt 13, 3) := by decide +kernel
theorem dX0_loadEarly_18 : decode cX0_loadEarly 18 = .ok (.aload_n 0, 1) := by decide +kernel
theorem dX0_loadEarly_19 : decode cX0_loadEarly 19 = .ok (.getfield 56, 3) := by decide +kernel
theorem dX0_loadEarly_22 : decode cX0_loadEarly 22 = .ok (.iload_n 2, 1) := by decide +kernel
theorem dX0_loadEarly_23 : decode cX0_loadEarly 23 = .ok (.baload, 1) := by decide +kernel
theorem dX0_loadEarly_24 : decode cX0_loadEarly 24 = .ok (.ifCond .ne 4, 3) := by decide +kernel
theorem dX0_loadEarly_27 : decode cX0_loadEarly 27 = .ok (.return_, 1) := by decide +kernel
theorem dX0_loadEarly_28 : decode cX0_loadEarly 28 = .ok (.iload_n 2, 1) := by decide +kernel
theorem dX0_loadEarly_29 : decode cX0_loadEarly 29 = .ok (.ifCond .lt 12, 3) := by decide +kernel
theorem dX0_loadEarly_32 : decode cX0_loadEarly 32 = .ok (.aload_n 0, 1) := by decide +kernel
theorem dX0_loadEarly_33 : decode cX0_loadEarly 33 = .ok (.getfield 53, 3) := by decide +kernel
theorem dX0_loadEarly_36 : decode cX0_loadEarly 36 = .ok (.iload_n 2, 1) := by decide +kernel
theorem dX0_loadEarly_37 : decode cX0_loadEarly 37 = .ok (.iaload, 1) := by decide +kernel
theorem dX0_loadEarly_38 : decode cX0_loadEarly 38 = .ok (.goto 14, 3) := by decide +kernel
theorem dX0_loadEarly_41 : decode cX0_loadEarly 41 = .ok (.aload_n 0, 1) := by decide +kernel
theorem dX0_loadEarly_42 : decode cX0_loadEarly 42 = .ok (.getfield 25, 3) := by decide +kernel
theorem dX0_loadEarly_45 : decode cX0_loadEarly 45 = .ok (.aload_n 0, 1) := by decide +kernel
theorem dX0_loadEarly_46 : decode cX0_loadEarly 46 = .ok (.getfield 16, 3) := by decide +kernel
theorem dX0_loadEarly_49 : decode cX0_loadEarly 49 = .ok (.iload_n 1, 1) := by decide +kernel
theorem dX0_loadEarly_50 : decode cX0_loadEarly 50 = .ok (.iaload, 1) := by decide +kernel
theorem dX0_loadEarly_51 : decode cX0_loadEarly 51 = .ok (.iaload, 1) := by decide +kernel
theorem dX0_loadEarly_52 : decode cX0_loadEarly 52 = .ok (.istore_n 3, 1) := by decide +kernel
theorem dX0_loadEarly_53 : decode cX0_loadEarly 53 = .ok (.iload_n 3, 1) := by decide +kernel
theorem dX0_loadEarly_54 : decode cX0_loadEarly 54 = .ok (.aload_n 0, 1) := by decide +kernel
theorem dX0_loadEarly_55 : decode cX0_loadEarly 55 = .ok (.getfield 22, 3) := by decide +kernel
theorem dX0_loadEarly_58 : decode cX0_loadEarly 58 = .ok (.iload_n 1, 1) := by decide +kernel
theorem dX0_loadEarly_59 : decode cX0_loadEarly 59 = .ok (.iaload, 1) := by decide +kernel
theorem dX0_loadEarly_60 : decode cX0_loadEarly 60 = .ok (.iadd, 1) := by decide +kernel
theorem dX0_loadEarly_61 : decode cX0_loadEarly 61 = .ok (.istore 4, 2) := by decide +kernel
theorem dX0_loadEarly_63 : decode cX0_loadEarly 63 = .ok (.aload_n 0, 1) := by decide +kernel
theorem dX0_loadEarly_64 : decode cX0_loadEarly 64 = .ok (.iload 4, 2) := by decide +kernel
theorem dX0_loadEarly_66 : decode cX0_loadEarly 66 = .ok (.invokevirtual 130, 3) := by decide +kernel
theorem dX0_loadEarly_69 : decode cX0_loadEarly 69 = .ok (.ifCond .ne 30, 3) := by decide +kernel
theorem dX0_loadEarly_72 : decode cX0_loadEarly 72 = .ok (.aload_n 0, 1) := by decide +kernel
theorem dX0_loadEarly_73 : decode cX0_loadEarly 73 = .ok (.getfield 56, 3) := by decide +kernel
theorem dX0_loadEarly_76 : decode cX0_loadEarly 76 = .ok (.iload_n 1, 1) := by decide +kernel
theorem dX0_loadEarly_77 : decode cX0_loadEarly 77 = .ok (.iconst 1, 1) := by decide +kernel
theorem dX0_loadEarly_78 : decode cX0_loadEarly 78 = .ok (.bastore, 1) := by decide +kernel
theorem dX0_loadEarly_79 : decode cX0_loadEarly 79 = .ok (.aload_n 0, 1) := by decide +kernel
theorem dX0_loadEarly_80 : decode cX0_loadEarly 80 = .ok (.getfield 53, 3) := by decide +kernel
theorem dX0_loadEarly_83 : decode cX0_loadEarly 83 = .ok (.iload_n 1, 1) := by decide +kernel
theorem dX0_loadEarly_84 : decode cX0_loadEarly 84 = .ok (.aload_n 0, 1) := by decide +kernel
theorem dX0_loadEarly_85 : decode cX0_loadEarly 85 = .ok (.getfield 28, 3) := by decide +kernel
theorem dX0_loadEarly_88 : decode cX0_loadEarly 88 = .ok (.iload 4, 2) := by decide +kernel
theorem dX0_loadEarly_90 : decode cX0_loadEarly 90 = .ok (.iaload, 1) := by decide +kernel
theorem dX0_loadEarly_91 : decode cX0_loadEarly 91 = .ok (.iastore, 1) := by decide +kernel
theorem dX0_loadEarly_92 : decode cX0_loadEarly 92 = .ok (.aload_n 0, 1) := by decide +kernel
theorem dX0_loadEarly_93 : decode cX0_loadEarly 93 = .ok (.iload_n 1, 1) := by decide +kernel
theorem dX0_loadEarly_94 : decode cX0_loadEarly 94 = .ok (.iload 4, 2) := by decide +kernel
theorem dX0_loadEarly_96 : decode cX0_loadEarly 96 = .ok (.invokevirtual 133, 3) := by decide +kernel
theorem dX0_loadEarly_99 : decode cX0_loadEarly 99 = .ok (.return_, 1) := by decide +kernel
abbrev cX0_faults : ByteArray := prog_1_method_30_code
def yX0_faults : MethodName := ⟨RX0, "faults", "(I)Z"⟩
theorem dX0_faults_0 : decode cX0_faults 0 = .ok (.aload_n 0, 1) := by decide +kernel
theorem dX0_faults_1 : decode cX0_faults 1 = .ok (.iload_n 1, 1) := by decide +kernel
theorem dX0_faults_2 : decode cX0_faults 2 = .ok (.invokevirtual 84, 3) := by decide +kernel
theorem dX0_faults_5 : decode cX0_faults 5 = .ok (.ifCond .ne 12, 3) := by decide +kernel
theorem dX0_faults_8 : decode cX0_faults 8 = .ok (.aload_n 0, 1) := by decide +kernel
theorem dX0_faults_9 : decode cX0_faults 9 = .ok (.getfield 31, 3) := by decide +kernel
theorem dX0_faults_12 : decode cX0_faults 12 = .ok (.iload_n 1, 1) := by decide +kernel
theorem dX0_faults_13 : decode cX0_faults 13 = .ok (.baload, 1) := by decide +kernel
theorem dX0_faults_14 : decode cX0_faults 14 = .ok (.ifCond .eq 7, 3) := by decide +kernel
theorem dX0_faults_17 : decode cX0_faults 17 = .ok (.iconst 1, 1) := by decide +kernel
theorem dX0_faults_18 : decode cX0_faults 18 = .ok (.goto 4, 3) := by decide +kernel
theorem dX0_faults_21 : decode cX0_faults 21 = .ok (.iconst 0, 1) := by decide +kernel
theorem dX0_faults_22 : decode cX0_faults 22 = .ok (.ireturn, 1) := by decide +kernel
abbrev cX0_watch : ByteArray := prog_1_method_31_code
def yX0_watch : MethodName := ⟨RX0, "watch", "(II)V"⟩
theorem dX0_watch_0 : decode cX0_watch 0 = .ok (.aload_n 0, 1) := by decide +kernel
theorem dX0_watch_1 : decode cX0_watch 1 = .ok (.getfield 59, 3) := by decide +kernel
theorem dX0_watch_4 : decode cX0_watch 4 = .ok (.aload_n 0, 1) := by decide +kernel
theorem dX0_watch_5 : decode cX0_watch 5 = .ok (.getfield 127, 3) := by decide +kernel
theorem dX0_watch_8 : decode cX0_watch 8 = .ok (.iload_n 1, 1) := by decide +kernel
theorem dX0_watch_9 : decode cX0_watch 9 = .ok (.iastore, 1) := by decide +kernel
theorem dX0_watch_10 : decode cX0_watch 10 = .ok (.aload_n 0, 1) := by decide +kernel
theorem dX0_watch_11 : decode cX0_watch 11 = .ok (.getfield 62, 3) := by decide +kernel
theorem dX0_watch_14 : decode cX0_watch 14 = .ok (.aload_n 0, 1) := by decide +kernel
theorem dX0_watch_15 : decode cX0_watch 15 = .ok (.getfield 127, 3) := by decide +kernel
theorem dX0_watch_18 : decode cX0_watch 18 = .ok (.iload_n 2, 1) := by decide +kernel
theorem dX0_watch_19 : decode cX0_watch 19 = .ok (.iastore, 1) := by decide +kernel
theorem dX0_watch_20 : decode cX0_watch 20 = .ok (.aload_n 0, 1) := by decide +kernel
theorem dX0_watch_21 : decode cX0_watch 21 = .ok (.aload_n 0, 1) := by decide +kernel
theorem dX0_watch_22 : decode cX0_watch 22 = .ok (.getfield 127, 3) := by decide +kernel
theorem dX0_watch_25 : decode cX0_watch 25 = .ok (.iconst 1, 1) := by decide +kernel
theorem dX0_watch_26 : decode cX0_watch 26 = .ok (.iadd, 1) := by decide +kernel
theorem dX0_watch_27 : decode cX0_watch 27 = .ok (.iconst 4, 1) := by decide +kernel
theorem dX0_watch_28 : decode cX0_watch 28 = .ok (.if_icmp .ne 7, 3) := by decide +kernel
theorem dX0_watch_31 : decode cX0_watch 31 = .ok (.iconst 0, 1) := by decide +kernel
theorem dX0_watch_32 : decode cX0_watch 32 = .ok (.goto 9, 3) := by decide +kernel
theorem dX0_watch_35 : decode cX0_watch 35 = .ok (.aload_n 0, 1) := by decide +kernel
theorem dX0_watch_36 : decode cX0_watch 36 = .ok (.getfield 127, 3) := by decide +kernel
theorem dX0_watch_39 : decode cX0_watch 39 = .ok (.iconst 1, 1) := by decide +kernel
theorem dX0_watch_40 : decode cX0_watch 40 = .ok (.iadd, 1) := by decide +kernel
theorem dX0_watch_41 : decode cX0_watch 41 = .ok (.putfield 127, 3) := by decide +kernel
theorem dX0_watch_44 : decode cX0_watch 44 = .ok (.return_, 1) := by decide +kernel
abbrev cX0_check : ByteArray := prog_1_method_35_code
def yX0_check : MethodName := ⟨RX0, "check", "(I)Z"⟩
theorem dX0_check_0 : decode cX0_check 0 = .ok (.aload_n 0, 1) := by decide +kernel
theorem dX0_check_1 : decode cX0_check 1 = .ok (.getfield 25, 3) := by decide +kernel
theorem dX0_check_4 : decode cX0_check 4 = .ok (.aload_n 0, 1) := by decide +kernel
theorem dX0_check_5 : decode cX0_check 5 = .ok (.getfield 16, 3) := by decide +kernel
theorem dX0_check_8 : decode cX0_check 8 = .ok (.iload_n 1, 1) := by decide +kernel
theorem dX0_check_9 : decode cX0_check 9 = .ok (.iaload, 1) := by decide +kernel
theorem dX0_check_10 : decode cX0_check 10 = .ok (.iaload, 1) := by decide +kernel
theorem dX0_check_11 : decode cX0_check 11 = .ok (.aload_n 0, 1) := by decide +kernel
theorem dX0_check_12 : decode cX0_check 12 = .ok (.getfield 22, 3) := by decide +kernel
theorem dX0_check_15 : decode cX0_check 15 = .ok (.iload_n 1, 1) := by decide +kernel
theorem dX0_check_16 : decode cX0_check 16 = .ok (.iaload, 1) := by decide +kernel
theorem dX0_check_17 : decode cX0_check 17 = .ok (.iadd, 1) := by decide +kernel
theorem dX0_check_18 : decode cX0_check 18 = .ok (.istore_n 2, 1) := by decide +kernel
theorem dX0_check_19 : decode cX0_check 19 = .ok (.aload_n 0, 1) := by decide +kernel
theorem dX0_check_20 : decode cX0_check 20 = .ok (.getfield 56, 3) := by decide +kernel
theorem dX0_check_23 : decode cX0_check 23 = .ok (.iload_n 1, 1) := by decide +kernel
theorem dX0_check_24 : decode cX0_check 24 = .ok (.baload, 1) := by decide +kernel
theorem dX0_check_25 : decode cX0_check 25 = .ok (.ifCond .eq 16, 3) := by decide +kernel
theorem dX0_check_28 : decode cX0_check 28 = .ok (.aload_n 0, 1) := by decide +kernel
theorem dX0_check_29 : decode cX0_check 29 = .ok (.iload_n 1, 1) := by decide +kernel
theorem dX0_check_30 : decode cX0_check 30 = .ok (.iload_n 2, 1) := by decide +kernel
theorem dX0_check_31 : decode cX0_check 31 = .ok (.invokevirtual 137, 3) := by decide +kernel
theorem dX0_check_34 : decode cX0_check 34 = .ok (.ifCond .eq 7, 3) := by decide +kernel
theorem dX0_check_37 : decode cX0_check 37 = .ok (.iconst 1, 1) := by decide +kernel
theorem dX0_check_38 : decode cX0_check 38 = .ok (.goto 4, 3) := by decide +kernel
theorem dX0_check_41 : decode cX0_check 41 = .ok (.iconst 0, 1) := by decide +kernel
theorem dX0_check_42 : decode cX0_check 42 = .ok (.istore_n 3, 1) := by decide +kernel
theorem dX0_check_43 : decode cX0_check 43 = .ok (.iload_n 3, 1) := by decide +kernel
theorem dX0_check_44 : decode cX0_check 44 = .ok (.ifCond .eq 22, 3) := by decide +kernel
theorem dX0_check_47 : decode cX0_check 47 = .ok (.aload_n 0, 1) := by decide +kernel
theorem dX0_check_48 : decode cX0_check 48 = .ok (.getfield 25, 3) := by decide +kernel
theorem dX0_check_51 : decode cX0_check 51 = .ok (.aload_n 0, 1) := by decide +kernel
theorem dX0_check_52 : decode cX0_check 52 = .ok (.getfield 13, 3) := by decide +kernel
theorem dX0_check_55 : decode cX0_check 55 = .ok (.iload_n 1, 1) := by decide +kernel
theorem dX0_check_56 : decode cX0_check 56 = .ok (.iaload, 1) := by decide +kernel
theorem dX0_check_57 : decode cX0_check 57 = .ok (.aload_n 0, 1) := by decide +kernel
theorem dX0_check_58 : decode cX0_check 58 = .ok (.getfield 53, 3) := by decide +kernel
theorem dX0_check_61 : decode cX0_check 61 = .ok (.iload_n 1, 1) := by decide +kernel
theorem dX0_check_62 : decode cX0_check 62 = .ok (.iaload, 1) := by decide +kernel
theorem dX0_check_63 : decode cX0_check 63 = .ok (.iastore, 1) := by decide +kernel
theorem dX0_check_64 : decode cX0_check 64 = .ok (.iconst 1, 1) := by decide +kernel
theorem dX0_check_65 : decode cX0_check 65 = .ok (.ireturn, 1) := by decide +kernel
theorem dX0_check_66 : decode cX0_check 66 = .ok (.aload_n 0, 1) := by decide +kernel
theorem dX0_check_67 : decode cX0_check 67 = .ok (.iload_n 2, 1) := by decide +kernel
theorem dX0_check_68 : decode cX0_check 68 = .ok (.invokevirtual 130, 3) := by decide +kernel
theorem dX0_check_71 : decode cX0_check 71 = .ok (.ifCond .eq 5, 3) := by decide +kernel
theorem dX0_check_74 : decode cX0_check 74 = .ok (.iconst 0, 1) := by decide +kernel
theorem dX0_check_75 : decode cX0_check 75 = .ok (.ireturn, 1) := by decide +kernel
theorem dX0_check_76 : decode cX0_check 76 = .ok (.aload_n 0, 1) := by decide +kernel
theorem dX0_check_77 : decode cX0_check 77 = .ok (.getfield 25, 3) := by decide +kernel
theorem dX0_check_80 : decode cX0_check 80 = .ok (.aload_n 0, 1) := by decide +kernel
theorem dX0_check_81 : decode cX0_check 81 = .ok (.getfield 13, 3) := by decide +kernel
theorem dX0_check_84 : decode cX0_check 84 = .ok (.iload_n 1, 1) := by decide +kernel
theorem dX0_check_85 : decode cX0_check 85 = .ok (.iaload, 1) := by decide +kernel
theorem dX0_check_86 : decode cX0_check 86 = .ok (.aload_n 0, 1) := by decide +kernel
theorem dX0_check_87 : decode cX0_check 87 = .ok (.getfield 28, 3) := by decide +kernel
theorem dX0_check_90 : decode cX0_check 90 = .ok (.iload_n 2, 1) := by decide +kernel
theorem dX0_check_91 : decode cX0_check 91 = .ok (.iaload, 1) := by decide +kernel
theorem dX0_check_92 : decode cX0_check 92 = .ok (.iastore, 1) := by decide +kernel
theorem dX0_check_93 : decode cX0_check 93 = .ok (.iconst 1, 1) := by decide +kernel
theorem dX0_check_94 : decode cX0_check 94 = .ok (.ireturn, 1) := by decide +kernel
abbrev cX0_stillWatched : ByteArray := prog_1_method_33_code
def yX0_stillWatched : MethodName := ⟨RX0, "stillWatched", "(II)Z"⟩
theorem dX0_stillWatched_0 : decode cX0_stillWatched 0 = .ok (.iconst 0, 1) := by decide +kernel
theorem dX0_stillWatched_1 : decode cX0_stillWatched 1 = .ok (.istore_n 3, 1) := by decide +kernel
theorem dX0_stillWatched_2 : decode cX0_stillWatched 2 = .ok (.iconst 0, 1) := by decide +kernel
theorem dX0_stillWatched_3 : decode cX0_stillWatched 3 = .ok (.istore 4, 2) := by decide +kernel
theorem dX0_stillWatched_5 : decode cX0_stillWatched 5 = .ok (.iload 4, 2) := by decide +kernel
theorem dX0_stillWatched_7 : decode cX0_stillWatched 7 = .ok (.iconst 4, 1) := by decide +kernel
theorem dX0_stillWatched_8 : decode cX0_stillWatched 8 = .ok (.if_icmp .ge 33, 3) := by decide +kernel
theorem dX0_stillWatched_11 : decode cX0_stillWatched 11 = .ok (.aload_n 0, 1) := by decide +kernel
theorem dX0_stillWatched_12 : decode cX0_stillWatched 12 = .ok (.getfield 59, 3) := by decide +kernel
theorem dX0_stillWatched_15 : decode cX0_stillWatched 15 = .ok (.iload 4, 2) := by decide +kernel
theorem dX0_stillWatched_17 : decode cX0_stillWatched 17 = .ok (.iaload, 1) := by decide +kernel
theorem dX0_stillWatched_18 : decode cX0_stillWatched 18 = .ok (.iload_n 1, 1) := by decide +kernel
theorem dX0_stillWatched_19 : decode cX0_stillWatched 19 = .ok (.if_icmp .ne 16, 3) := by decide +kernel
theorem dX0_stillWatched_22 : decode cX0_stillWatched 22 = .ok (.aload_n 0, 1) := by decide +kernel
theorem dX0_stillWatched_23 : decode cX0_stillWatched 23 = .ok (.getfield 62, 3) := by decide +kernel
theorem dX0_stillWatched_26 : decode cX0_stillWatched 26 = .ok (.iload 4, 2) := by decide +kernel
theorem dX0_stillWatched_28 : decode cX0_stillWatched 28 = .ok (.iaload, 1) := by decide +kernel
theorem dX0_stillWatched_29 : decode cX0_stillWatched 29 = .ok (.iload_n 2, 1) := by decide +kernel
theorem dX0_stillWatched_30 : decode cX0_stillWatched 30 = .ok (.if_icmp .ne 5, 3) := by decide +kernel
theorem dX0_stillWatched_33 : decode cX0_stillWatched 33 = .ok (.iconst 1, 1) := by decide +kernel
theorem dX0_stillWatched_34 : decode cX0_stillWatched 34 = .ok (.istore_n 3, 1) := by decide +kernel
theorem dX0_stillWatched_35 : decode cX0_stillWatched 35 = .ok (.iinc 4 1, 3) := by decide +kernel
theorem dX0_stillWatched_38 : decode cX0_stillWatched 38 = .ok (.goto (-33), 3) := by decide +kernel
theorem dX0_stillWatched_41 : decode cX0_stillWatched 41 = .ok (.iload_n 3, 1) := by decide +kernel
theorem dX0_stillWatched_42 : decode cX0_stillWatched 42 = .ok (.ireturn, 1) := by decide +kernel
abbrev cX0_storeAt : ByteArray := prog_1_method_36_code
def yX0_storeAt : MethodName := ⟨RX0, "storeAt", "(I)Z"⟩
theorem dX0_storeAt_0 : decode cX0_storeAt 0 = .ok (.aload_n 0, 1) := by decide +kernel
theorem dX0_storeAt_1 : decode cX0_storeAt 1 = .ok (.getfield 25, 3) := by decide +kernel
theorem dX0_storeAt_4 : decode cX0_storeAt 4 = .ok (.aload_n 0, 1) := by decide +kernel
theorem dX0_storeAt_5 : decode cX0_storeAt 5 = .ok (.getfield 16, 3) := by decide +kernel
theorem dX0_storeAt_8 : decode cX0_storeAt 8 = .ok (.iload_n 1, 1) := by decide +kernel
theorem dX0_storeAt_9 : decode cX0_storeAt 9 = .ok (.iaload, 1) := by decide +kernel
theorem dX0_storeAt_10 : decode cX0_storeAt 10 = .ok (.iaload, 1) := by decide +kernel
theorem dX0_storeAt_11 : decode cX0_storeAt 11 = .ok (.aload_n 0, 1) := by decide +kernel
theorem dX0_storeAt_12 : decode cX0_storeAt 12 = .ok (.getfield 22, 3) := by decide +kernel
theorem dX0_storeAt_15 : decode cX0_storeAt 15 = .ok (.iload_n 1, 1) := by decide +kernel
theorem dX0_storeAt_16 : decode cX0_storeAt 16 = .ok (.iaload, 1) := by decide +kernel
theorem dX0_storeAt_17 : decode cX0_storeAt 17 = .ok (.iadd, 1) := by decide +kernel
theorem dX0_storeAt_18 : decode cX0_storeAt 18 = .ok (.istore_n 2, 1) := by decide +kernel
theorem dX0_storeAt_19 : decode cX0_storeAt 19 = .ok (.aload_n 0, 1) := by decide +kernel
theorem dX0_storeAt_20 : decode cX0_storeAt 20 = .ok (.iload_n 2, 1) := by decide +kernel
theorem dX0_storeAt_21 : decode cX0_storeAt 21 = .ok (.invokevirtual 130, 3) := by decide +kernel
theorem dX0_storeAt_24 : decode cX0_storeAt 24 = .ok (.ifCond .eq 5, 3) := by decide +kernel
theorem dX0_storeAt_27 : decode cX0_storeAt 27 = .ok (.iconst 0, 1) := by decide +kernel
theorem dX0_storeAt_28 : decode cX0_storeAt 28 = .ok (.ireturn, 1) := by decide +kernel
theorem dX0_storeAt_29 : decode cX0_storeAt 29 = .ok (.aload_n 0, 1) := by decide +kernel
theorem dX0_storeAt_30 : decode cX0_storeAt 30 = .ok (.getfield 28, 3) := by decide +kernel
theorem dX0_storeAt_33 : decode cX0_storeAt 33 = .ok (.iload_n 2, 1) := by decide +kernel
theorem dX0_storeAt_34 : decode cX0_storeAt 34 = .ok (.aload_n 0, 1) := by decide +kernel
theorem dX0_storeAt_35 : decode cX0_storeAt 35 = .ok (.getfield 25, 3) := by decide +kernel
theorem dX0_storeAt_38 : decode cX0_storeAt 38 = .ok (.aload_n 0, 1) := by decide +kernel
theorem dX0_storeAt_39 : decode cX0_storeAt 39 = .ok (.getfield 19, 3) := by decide +kernel
theorem dX0_storeAt_42 : decode cX0_storeAt 42 = .ok (.iload_n 1, 1) := by decide +kernel
theorem dX0_storeAt_43 : decode cX0_storeAt 43 = .ok (.iaload, 1) := by decide +kernel
theorem dX0_storeAt_44 : decode cX0_storeAt 44 = .ok (.iaload, 1) := by decide +kernel
theorem dX0_storeAt_45 : decode cX0_storeAt 45 = .ok (.iastore, 1) := by decide +kernel
theorem dX0_storeAt_46 : decode cX0_storeAt 46 = .ok (.aload_n 0, 1) := by decide +kernel
theorem dX0_storeAt_47 : decode cX0_storeAt 47 = .ok (.iload_n 2, 1) := by decide +kernel
theorem dX0_storeAt_48 : decode cX0_storeAt 48 = .ok (.invokevirtual 140, 3) := by decide +kernel
theorem dX0_storeAt_51 : decode cX0_storeAt 51 = .ok (.iconst 1, 1) := by decide +kernel
theorem dX0_storeAt_52 : decode cX0_storeAt 52 = .ok (.ireturn, 1) := by decide +kernel
abbrev cX0_stored : ByteArray := prog_1_method_32_code
def yX0_stored : MethodName := ⟨RX0, "stored", "(I)V"⟩
theorem dX0_stored_0 : decode cX0_stored 0 = .ok (.iconst 0, 1) := by decide +kernel
theorem dX0_stored_1 : decode cX0_stored 1 = .ok (.istore_n 2, 1) := by decide +kernel
theorem dX0_stored_2 : decode cX0_stored 2 = .ok (.iload_n 2, 1) := by decide +kernel
theorem dX0_stored_3 : decode cX0_stored 3 = .ok (.iconst 4, 1) := by decide +kernel
theorem dX0_stored_4 : decode cX0_stored 4 = .ok (.if_icmp .ge 26, 3) := by decide +kernel
theorem dX0_stored_7 : decode cX0_stored 7 = .ok (.aload_n 0, 1) := by decide +kernel
theorem dX0_stored_8 : decode cX0_stored 8 = .ok (.getfield 62, 3) := by decide +kernel
theorem dX0_stored_11 : decode cX0_stored 11 = .ok (.iload_n 2, 1) := by decide +kernel
theorem dX0_stored_12 : decode cX0_stored 12 = .ok (.iaload, 1) := by decide +kernel
theorem dX0_stored_13 : decode cX0_stored 13 = .ok (.iload_n 1, 1) := by decide +kernel
theorem dX0_stored_14 : decode cX0_stored 14 = .ok (.if_icmp .ne 10, 3) := by decide +kernel
theorem dX0_stored_17 : decode cX0_stored 17 = .ok (.aload_n 0, 1) := by decide +kernel
theorem dX0_stored_18 : decode cX0_stored 18 = .ok (.getfield 59, 3) := by decide +kernel
theorem dX0_stored_21 : decode cX0_stored 21 = .ok (.iload_n 2, 1) := by decide +kernel
theorem dX0_stored_22 : decode cX0_stored 22 = .ok (.iconst (-1), 1) := by decide +kernel
theorem dX0_stored_23 : decode cX0_stored 23 = .ok (.iastore, 1) := by decide +kernel
theorem dX0_stored_24 : decode cX0_stored 24 = .ok (.iinc 2 1, 3) := by decide +kernel
theorem dX0_stored_27 : decode cX0_stored 27 = .ok (.goto (-25), 3) := by decide +kernel
theorem dX0_stored_30 : decode cX0_stored 30 = .ok (.return_, 1) := by decide +kernel
abbrev cX0_last : ByteArray := prog_1_method_39_code
def yX0_last : MethodName := ⟨RX0, "last", "()I"⟩
theorem dX0_last_0 : decode cX0_last 0 = .ok (.aload_n 0, 1) := by decide +kernel
theorem dX0_last_1 : decode cX0_last 1 = .ok (.getfield 65, 3) := by decide +kernel
theorem dX0_last_4 : decode cX0_last 4 = .ok (.ireturn, 1) := by decide +kernel
abbrev cX0_repeat : ByteArray := prog_1_method_40_code
def yX0_repeat : MethodName := ⟨RX0, "repeat", "(I)I"⟩
theorem dX0_repeat_0 : decode cX0_repeat 0 = .ok (.iload_n 1, 1) := by decide +kernel
theorem dX0_repeat_1 : decode cX0_repeat 1 = .ok (.istore_n 2, 1) := by decide +kernel
theorem dX0_repeat_2 : decode cX0_repeat 2 = .ok (.iload_n 2, 1) := by decide +kernel
theorem dX0_repeat_3 : decode cX0_repeat 3 = .ok (.ifCond .ge 5, 3) := by decide +kernel
theorem dX0_repeat_6 : decode cX0_repeat 6 = .ok (.iconst 0, 1) := by decide +kernel
theorem dX0_repeat_7 : decode cX0_repeat 7 = .ok (.istore_n 2, 1) := by decide +kernel
theorem dX0_repeat_8 : decode cX0_repeat 8 = .ok (.iload_n 2, 1) := by decide +kernel
theorem dX0_repeat_9 : decode cX0_repeat 9 = .ok (.bipush 8, 2) := by decide +kernel
theorem dX0_repeat_11 : decode cX0_repeat 11 = .ok (.if_icmp .le 6, 3) := by decide +kernel
theorem dX0_repeat_14 : decode cX0_repeat 14 = .ok (.bipush 8, 2) := by decide +kernel
theorem dX0_repeat_16 : decode cX0_repeat 16 = .ok (.istore_n 2, 1) := by decide +kernel
theorem dX0_repeat_17 : decode cX0_repeat 17 = .ok (.iconst 0, 1) := by decide +kernel
theorem dX0_repeat_18 : decode cX0_repeat 18 = .ok (.istore_n 3, 1) := by decide +kernel
theorem dX0_repeat_19 : decode cX0_repeat 19 = .ok (.iconst 1, 1) := by decide +kernel
theorem dX0_repeat_20 : decode cX0_repeat 20 = .ok (.istore 4, 2) := by decide +kernel
theorem dX0_repeat_22 : decode cX0_repeat 22 = .ok (.iconst 0, 1) := by decide +kernel
theorem dX0_repeat_23 : decode cX0_repeat 23 = .ok (.istore 5, 2) := by decide +kernel
theorem dX0_repeat_25 : decode cX0_repeat 25 = .ok (.iload 5, 2) := by decide +kernel
theorem dX0_repeat_27 : decode cX0_repeat 27 = .ok (.iload_n 2, 1) := by decide +kernel
theorem dX0_repeat_28 : decode cX0_repeat 28 = .ok (.if_icmp .ge 35, 3) := by decide +kernel
theorem dX0_repeat_31 : decode cX0_repeat 31 = .ok (.iload 4, 2) := by decide +kernel
theorem dX0_repeat_33 : decode cX0_repeat 33 = .ok (.ifCond .eq 30, 3) := by decide +kernel
theorem dX0_repeat_36 : decode cX0_repeat 36 = .ok (.aload_n 0, 1) := by decide +kernel
theorem dX0_repeat_37 : decode cX0_repeat 37 = .ok (.invokevirtual 158, 3) := by decide +kernel
theorem dX0_repeat_40 : decode cX0_repeat 40 = .ok (.istore 6, 2) := by decide +kernel
theorem dX0_repeat_42 : decode cX0_repeat 42 = .ok (.iinc 3 1, 3) := by decide +kernel
theorem dX0_repeat_45 : decode cX0_repeat 45 = .ok (.iload 6, 2) := by decide +kernel
theorem dX0_repeat_47 : decode cX0_repeat 47 = .ok (.ifCond .ne 7, 3) := by decide +kernel
theorem dX0_repeat_50 : decode cX0_repeat 50 = .ok (.iconst 1, 1) := by decide +kernel
theorem dX0_repeat_51 : decode cX0_repeat 51 = .ok (.goto 4, 3) := by decide +kernel
theorem dX0_repeat_54 : decode cX0_repeat 54 = .ok (.iconst 0, 1) := by decide +kernel
theorem dX0_repeat_55 : decode cX0_repeat 55 = .ok (.istore 4, 2) := by decide +kernel
theorem dX0_repeat_57 : decode cX0_repeat 57 = .ok (.iinc 5 1, 3) := by decide +kernel
theorem dX0_repeat_60 : decode cX0_repeat 60 = .ok (.goto (-35), 3) := by decide +kernel
theorem dX0_repeat_63 : decode cX0_repeat 63 = .ok (.iload_n 3, 1) := by decide +kernel
theorem dX0_repeat_64 : decode cX0_repeat 64 = .ok (.ireturn, 1) := by decide +kernel
theorem q28 : (Jvm.Cond.initialized "SpecLoadSched") ∈ lw_all := lw_g (lw_at lw_m1 1 rfl) rfl
theorem q31 : (Jvm.Cond.instantiable "SpecLoadSched" (23 : Nat)) ∈ lw_all := lw_g (lw_at lw_m1 4 rfl) rfl
theorem q33 : (Jvm.Cond.instanceMethod ({ cls := "SpecLoadSched", name := "<init>", desc := "()V" } : Jvm.MethodName)) ∈ lw_all := lw_g (lw_at lw_m1 6 rfl) rfl
theorem q34 : (Jvm.Cond.code ({ cls := "SpecLoadSched", name := "<init>", desc := "()V" } : Jvm.MethodName) prog_1_method_1_code (1 : Nat) (Option.none : Option Jvm.ClassFile.FieldType)) ∈ lw_all := lw_g (lw_at lw_m1 7 rfl) rfl
theorem q35 : (Jvm.Cond.methodLink "SpecLoadSched" (1 : Nat) ({ cls := "java/lang/Object", name := "<init>", desc := "()V" } : Jvm.MethodName)) ∈ lw_all := lw_g (lw_at lw_m1 8 rfl) rfl
theorem q38 : (Jvm.Cond.fieldLink "SpecLoadSched" (69 : Nat) "SpecLoadSched" "count" "I") ∈ lw_all := lw_g (lw_at lw_m1 11 rfl) rfl
theorem q39 : (Jvm.Cond.fieldLink "SpecLoadSched" (7 : Nat) "SpecLoadSched" "op" "[I") ∈ lw_all := lw_g (lw_at lw_m1 12 rfl) rfl
theorem q40 : (Jvm.Cond.fieldLink "SpecLoadSched" (13 : Nat) "SpecLoadSched" "dest" "[I") ∈ lw_all := lw_g (lw_at lw_m1 13 rfl) rfl
theorem q41 : (Jvm.Cond.fieldLink "SpecLoadSched" (16 : Nat) "SpecLoadSched" "left" "[I") ∈ lw_all := lw_g (lw_at lw_m1 14 rfl) rfl
theorem q42 : (Jvm.Cond.fieldLink "SpecLoadSched" (19 : Nat) "SpecLoadSched" "right" "[I") ∈ lw_all := lw_g (lw_at lw_m1 15 rfl) rfl
theorem q43 : (Jvm.Cond.fieldLink "SpecLoadSched" (22 : Nat) "SpecLoadSched" "value" "[I") ∈ lw_all := lw_g (lw_at lw_m1 16 rfl) rfl
theorem q44 : (Jvm.Cond.fieldLink "SpecLoadSched" (25 : Nat) "SpecLoadSched" "reg" "[I") ∈ lw_all := lw_g (lw_at lw_m1 17 rfl) rfl
theorem q45 : (Jvm.Cond.fieldLink "SpecLoadSched" (28 : Nat) "SpecLoadSched" "mem" "[I") ∈ lw_all := lw_g (lw_at lw_m1 18 rfl) rfl
theorem q46 : (Jvm.Cond.fieldLink "SpecLoadSched" (31 : Nat) "SpecLoadSched" "barred" "[Z") ∈ lw_all := lw_g (lw_at lw_m1 19 rfl) rfl
theorem q47 : (Jvm.Cond.fieldLink "SpecLoadSched" (65 : Nat) "SpecLoadSched" "lastEnd" "I") ∈ lw_all := lw_g (lw_at lw_m1 20 rfl) rfl
theorem q48 : (Jvm.Cond.fieldLink "SpecLoadSched" (72 : Nat) "SpecLoadSched" "ready" "Z") ∈ lw_all := lw_g (lw_at lw_m1 21 rfl) rfl
theorem q49 : (Jvm.Cond.fieldLink "SpecLoadSched" (35 : Nat) "SpecLoadSched" "used" "[Z") ∈ lw_all := lw_g (lw_at lw_m1 22 rfl) rfl
theorem q50 : (Jvm.Cond.fieldLink "SpecLoadSched" (38 : Nat) "SpecLoadSched" "before" "[I") ∈ lw_all := lw_g (lw_at lw_m1 23 rfl) rfl
theorem q51 : (Jvm.Cond.fieldLink "SpecLoadSched" (41 : Nat) "SpecLoadSched" "height" "[I") ∈ lw_all := lw_g (lw_at lw_m1 24 rfl) rfl
theorem q52 : (Jvm.Cond.fieldLink "SpecLoadSched" (44 : Nat) "SpecLoadSched" "issuedAt" "[I") ∈ lw_all := lw_g (lw_at lw_m1 25 rfl) rfl
theorem q53 : (Jvm.Cond.fieldLink "SpecLoadSched" (115 : Nat) "SpecLoadSched" "length" "I") ∈ lw_all := lw_g (lw_at lw_m1 26 rfl) rfl
theorem q54 : (Jvm.Cond.fieldLink "SpecLoadSched" (47 : Nat) "SpecLoadSched" "order" "[I") ∈ lw_all := lw_g (lw_at lw_m1 27 rfl) rfl
theorem q55 : (Jvm.Cond.fieldLink "SpecLoadSched" (50 : Nat) "SpecLoadSched" "source" "[I") ∈ lw_all := lw_g (lw_at lw_m1 28 rfl) rfl
theorem q56 : (Jvm.Cond.fieldLink "SpecLoadSched" (53 : Nat) "SpecLoadSched" "early" "[I") ∈ lw_all := lw_g (lw_at lw_m1 29 rfl) rfl
theorem q57 : (Jvm.Cond.fieldLink "SpecLoadSched" (56 : Nat) "SpecLoadSched" "sound" "[Z") ∈ lw_all := lw_g (lw_at lw_m1 30 rfl) rfl
theorem q58 : (Jvm.Cond.fieldLink "SpecLoadSched" (127 : Nat) "SpecLoadSched" "victim" "I") ∈ lw_all := lw_g (lw_at lw_m1 31 rfl) rfl
theorem q59 : (Jvm.Cond.fieldLink "SpecLoadSched" (59 : Nat) "SpecLoadSched" "watchedLoad" "[I") ∈ lw_all := lw_g (lw_at lw_m1 32 rfl) rfl
theorem q60 : (Jvm.Cond.fieldLink "SpecLoadSched" (62 : Nat) "SpecLoadSched" "watchedAt" "[I") ∈ lw_all := lw_g (lw_at lw_m1 33 rfl) rfl
theorem q61 : (Jvm.Cond.lays "SpecLoadSched" "SpecLoadSched" "count" "I") ∈ lw_all := lw_g (lw_at lw_m1 34 rfl) rfl
theorem q62 : (Jvm.Cond.soleField "SpecLoadSched" "count") ∈ lw_all := lw_g (lw_at lw_m1 35 rfl) rfl
theorem q63 : (Jvm.Cond.laysFinal "SpecLoadSched" "SpecLoadSched" "op" "[I") ∈ lw_all := lw_g (lw_at lw_m1 36 rfl) rfl
theorem q64 : (Jvm.Cond.soleField "SpecLoadSched" "op") ∈ lw_all := lw_g (lw_at lw_m1 37 rfl) rfl
theorem q65 : (Jvm.Cond.laysFinal "SpecLoadSched" "SpecLoadSched" "dest" "[I") ∈ lw_all := lw_g (lw_at lw_m1 38 rfl) rfl
theorem q66 : (Jvm.Cond.soleField "SpecLoadSched" "dest") ∈ lw_all := lw_g (lw_at lw_m1 39 rfl) rfl
theorem q67 : (Jvm.Cond.laysFinal "SpecLoadSched" "SpecLoadSched" "left" "[I") ∈ lw_all := lw_g (lw_at lw_m1 40 rfl) rfl
theorem q68 : (Jvm.Cond.soleField "SpecLoadSched" "left") ∈ lw_all := lw_g (lw_at lw_m1 41 rfl) rfl
theorem q69 : (Jvm.Cond.laysFinal "SpecLoadSched" "SpecLoadSched" "right" "[I") ∈ lw_all := lw_g (lw_at lw_m1 42 rfl) rfl
theorem q70 : (Jvm.Cond.soleField "SpecLoadSched" "right") ∈ lw_all := lw_g (lw_at lw_m1 43 rfl) rfl
theorem q71 : (Jvm.Cond.laysFinal "SpecLoadSched" "SpecLoadSched" "value" "[I") ∈ lw_all := lw_g (lw_at lw_m1 44 rfl) rfl
theorem q72 : (Jvm.Cond.soleField "SpecLoadSched" "value") ∈ lw_all := lw_g (lw_at lw_m1 45 rfl) rfl
theorem q73 : (Jvm.Cond.laysFinal "SpecLoadSched" "SpecLoadSched" "reg" "[I") ∈ lw_all := lw_g (lw_at lw_m1 46 rfl) rfl
theorem q74 : (Jvm.Cond.soleField "SpecLoadSched" "reg") ∈ lw_all := lw_g (lw_at lw_m1 47 rfl) rfl
theorem q75 : (Jvm.Cond.laysFinal "SpecLoadSched" "SpecLoadSched" "mem" "[I") ∈ lw_all := lw_g (lw_at lw_m1 48 rfl) rfl
theorem q76 : (Jvm.Cond.soleField "SpecLoadSched" "mem") ∈ lw_all := lw_g (lw_at lw_m1 49 rfl) rfl
theorem q77 : (Jvm.Cond.laysFinal "SpecLoadSched" "SpecLoadSched" "barred" "[Z") ∈ lw_all := lw_g (lw_at lw_m1 50 rfl) rfl
theorem q78 : (Jvm.Cond.soleField "SpecLoadSched" "barred") ∈ lw_all := lw_g (lw_at lw_m1 51 rfl) rfl
theorem q79 : (Jvm.Cond.lays "SpecLoadSched" "SpecLoadSched" "lastEnd" "I") ∈ lw_all := lw_g (lw_at lw_m1 52 rfl) rfl
theorem q80 : (Jvm.Cond.soleField "SpecLoadSched" "lastEnd") ∈ lw_all := lw_g (lw_at lw_m1 53 rfl) rfl
theorem q81 : (Jvm.Cond.lays "SpecLoadSched" "SpecLoadSched" "ready" "Z") ∈ lw_all := lw_g (lw_at lw_m1 54 rfl) rfl
theorem q82 : (Jvm.Cond.soleField "SpecLoadSched" "ready") ∈ lw_all := lw_g (lw_at lw_m1 55 rfl) rfl
theorem q83 : (Jvm.Cond.laysFinal "SpecLoadSched" "SpecLoadSched" "used" "[Z") ∈ lw_all := lw_g (lw_at lw_m1 56 rfl) rfl
theorem q84 : (Jvm.Cond.soleField "SpecLoadSched" "used") ∈ lw_all := lw_g (lw_at lw_m1 57 rfl) rfl
theorem q85 : (Jvm.Cond.laysFinal "SpecLoadSched" "SpecLoadSched" "before" "[I") ∈ lw_all := lw_g (lw_at lw_m1 58 rfl) rfl
theorem q86 : (Jvm.Cond.soleField "SpecLoadSched" "before") ∈ lw_all := lw_g (lw_at lw_m1 59 rfl) rfl
theorem q87 : (Jvm.Cond.laysFinal "SpecLoadSched" "SpecLoadSched" "height" "[I") ∈ lw_all := lw_g (lw_at lw_m1 60 rfl) rfl
theorem q88 : (Jvm.Cond.soleField "SpecLoadSched" "height") ∈ lw_all := lw_g (lw_at lw_m1 61 rfl) rfl
theorem q89 : (Jvm.Cond.laysFinal "SpecLoadSched" "SpecLoadSched" "issuedAt" "[I") ∈ lw_all := lw_g (lw_at lw_m1 62 rfl) rfl
theorem q90 : (Jvm.Cond.soleField "SpecLoadSched" "issuedAt") ∈ lw_all := lw_g (lw_at lw_m1 63 rfl) rfl
theorem q91 : (Jvm.Cond.lays "SpecLoadSched" "SpecLoadSched" "length" "I") ∈ lw_all := lw_g (lw_at lw_m1 64 rfl) rfl
theorem q92 : (Jvm.Cond.soleField "SpecLoadSched" "length") ∈ lw_all := lw_g (lw_at lw_m1 65 rfl) rfl
theorem q93 : (Jvm.Cond.laysFinal "SpecLoadSched" "SpecLoadSched" "order" "[I") ∈ lw_all := lw_g (lw_at lw_m1 66 rfl) rfl
theorem q94 : (Jvm.Cond.soleField "SpecLoadSched" "order") ∈ lw_all := lw_g (lw_at lw_m1 67 rfl) rfl
theorem q95 : (Jvm.Cond.laysFinal "SpecLoadSched" "SpecLoadSched" "source" "[I") ∈ lw_all := lw_g (lw_at lw_m1 68 rfl) rfl
theorem q96 : (Jvm.Cond.soleField "SpecLoadSched" "source") ∈ lw_all := lw_g (lw_at lw_m1 69 rfl) rfl
theorem q97 : (Jvm.Cond.laysFinal "SpecLoadSched" "SpecLoadSched" "early" "[I") ∈ lw_all := lw_g (lw_at lw_m1 70 rfl) rfl
theorem q98 : (Jvm.Cond.soleField "SpecLoadSched" "early") ∈ lw_all := lw_g (lw_at lw_m1 71 rfl) rfl
theorem q99 : (Jvm.Cond.laysFinal "SpecLoadSched" "SpecLoadSched" "sound" "[Z") ∈ lw_all := lw_g (lw_at lw_m1 72 rfl) rfl
theorem q100 : (Jvm.Cond.soleField "SpecLoadSched" "sound") ∈ lw_all := lw_g (lw_at lw_m1 73 rfl) rfl
theorem q101 : (Jvm.Cond.lays "SpecLoadSched" "SpecLoadSched" "victim" "I") ∈ lw_all := lw_g (lw_at lw_m1 74 rfl) rfl
theorem q102 : (Jvm.Cond.soleField "SpecLoadSched" "victim") ∈ lw_all := lw_g (lw_at lw_m1 75 rfl) rfl
theorem q103 : (Jvm.Cond.laysFinal "SpecLoadSched" "SpecLoadSched" "watchedLoad" "[I") ∈ lw_all := lw_g (lw_at lw_m1 76 rfl) rfl
theorem q104 : (Jvm.Cond.soleField "SpecLoadSched" "watchedLoad") ∈ lw_all := lw_g (lw_at lw_m1 77 rfl) rfl
theorem q105 : (Jvm.Cond.laysFinal "SpecLoadSched" "SpecLoadSched" "watchedAt" "[I") ∈ lw_all := lw_g (lw_at lw_m1 78 rfl) rfl
theorem q106 : (Jvm.Cond.soleField "SpecLoadSched" "watchedAt") ∈ lw_all := lw_g (lw_at lw_m1 79 rfl) rfl
theorem q107 : (Jvm.Cond.superclass "SpecLoadSched" "java/lang/Object") ∈ lw_all := lw_g (lw_at lw_m1 80 rfl) rfl
theorem q111 : (Jvm.Cond.instanceMethod ({ cls := "SpecLoadSched", name := "constant", desc := "(II)I" } : Jvm.MethodName)) ∈ lw_all := lw_g (lw_at lw_m1 84 rfl) rfl
theorem q112 : (Jvm.Cond.selects "SpecLoadSched" ({ cls := "SpecLoadSched", name := "constant", desc := "(II)I" } : Jvm.MethodName) ({ cls := "SpecLoadSched", name := "constant", desc := "(II)I" } : Jvm.MethodName)) ∈ lw_all := lw_g (lw_at lw_m1 85 rfl) rfl
theorem q113 : (Jvm.Cond.code ({ cls := "SpecLoadSched", name := "constant", desc := "(II)I" } : Jvm.MethodName) prog_1_method_4_code (3 : Nat) (Option.some Jvm.ClassFile.FieldType.int)) ∈ lw_all := lw_g (lw_at lw_m1 86 rfl) rfl
theorem q114 : (Jvm.Cond.methodLink "SpecLoadSched" (76 : Nat) ({ cls := "SpecLoadSched", name := "badReg", desc := "(I)Z" } : Jvm.MethodName)) ∈ lw_all := lw_g (lw_at lw_m1 87 rfl) rfl
theorem q115 : (Jvm.Cond.privateMethod ({ cls := "SpecLoadSched", name := "badReg", desc := "(I)Z" } : Jvm.MethodName)) ∈ lw_tbl := lw_at lw_m1 88 rfl
theorem q116 : (Jvm.Cond.instanceMethod ({ cls := "SpecLoadSched", name := "badReg", desc := "(I)Z" } : Jvm.MethodName)) ∈ lw_all := lw_g (lw_at lw_m1 89 rfl) rfl
theorem q117 : (Jvm.Cond.code ({ cls := "SpecLoadSched", name := "badReg", desc := "(I)Z" } : Jvm.MethodName) prog_1_method_2_code (2 : Nat) (Option.some Jvm.ClassFile.FieldType.boolean)) ∈ lw_all := lw_g (lw_at lw_m1 90 rfl) rfl
theorem q118 : (Jvm.Cond.methodLink "SpecLoadSched" (80 : Nat) ({ cls := "SpecLoadSched", name := "append", desc := "(IIIII)I" } : Jvm.MethodName)) ∈ lw_all := lw_g (lw_at lw_m1 91 rfl) rfl
theorem q119 : (Jvm.Cond.privateMethod ({ cls := "SpecLoadSched", name := "append", desc := "(IIIII)I" } : Jvm.MethodName)) ∈ lw_tbl := lw_at lw_m1 92 rfl
theorem q120 : (Jvm.Cond.instanceMethod ({ cls := "SpecLoadSched", name := "append", desc := "(IIIII)I" } : Jvm.MethodName)) ∈ lw_all := lw_g (lw_at lw_m1 93 rfl) rfl
theorem q121 : (Jvm.Cond.code ({ cls := "SpecLoadSched", name := "append", desc := "(IIIII)I" } : Jvm.MethodName) prog_1_method_3_code (6 : Nat) (Option.some Jvm.ClassFile.FieldType.int)) ∈ lw_all := lw_g (lw_at lw_m1 94 rfl) rfl
theorem q123 : (Jvm.Cond.instanceMethod ({ cls := "SpecLoadSched", name := "add", desc := "(III)I" } : Jvm.MethodName)) ∈ lw_all := lw_g (lw_at lw_m1 96 rfl) rfl
theorem q124 : (Jvm.Cond.selects "SpecLoadSched" ({ cls := "SpecLoadSched", name := "add", desc := "(III)I" } : Jvm.MethodName) ({ cls := "SpecLoadSched", name := "add", desc := "(III)I" } : Jvm.MethodName)) ∈ lw_all := lw_g (lw_at lw_m1 97 rfl) rfl
theorem q125 : (Jvm.Cond.code ({ cls := "SpecLoadSched", name := "add", desc := "(III)I" } : Jvm.MethodName) prog_1_method_5_code (4 : Nat) (Option.some Jvm.ClassFile.FieldType.int)) ∈ lw_all := lw_g (lw_at lw_m1 98 rfl) rfl
theorem q127 : (Jvm.Cond.instanceMethod ({ cls := "SpecLoadSched", name := "subtract", desc := "(III)I" } : Jvm.MethodName)) ∈ lw_all := lw_g (lw_at lw_m1 100 rfl) rfl
theorem q128 : (Jvm.Cond.selects "SpecLoadSched" ({ cls := "SpecLoadSched", name := "subtract", desc := "(III)I" } : Jvm.MethodName) ({ cls := "SpecLoadSched", name := "subtract", desc := "(III)I" } : Jvm.MethodName)) ∈ lw_all := lw_g (lw_at lw_m1 101 rfl) rfl
theorem q129 : (Jvm.Cond.code ({ cls := "SpecLoadSched", name := "subtract", desc := "(III)I" } : Jvm.MethodName) prog_1_method_6_code (4 : Nat) (Option.some Jvm.ClassFile.FieldType.int)) ∈ lw_all := lw_g (lw_at lw_m1 102 rfl) rfl
theorem q131 : (Jvm.Cond.instanceMethod ({ cls := "SpecLoadSched", name := "load", desc := "(III)I" } : Jvm.MethodName)) ∈ lw_all := lw_g (lw_at lw_m1 104 rfl) rfl
theorem q132 : (Jvm.Cond.selects "SpecLoadSched" ({ cls := "SpecLoadSched", name := "load", desc := "(III)I" } : Jvm.MethodName) ({ cls := "SpecLoadSched", name := "load", desc := "(III)I" } : Jvm.MethodName)) ∈ lw_all := lw_g (lw_at lw_m1 105 rfl) rfl
theorem q133 : (Jvm.Cond.code ({ cls := "SpecLoadSched", name := "load", desc := "(III)I" } : Jvm.MethodName) prog_1_method_7_code (4 : Nat) (Option.some Jvm.ClassFile.FieldType.int)) ∈ lw_all := lw_g (lw_at lw_m1 106 rfl) rfl
theorem q135 : (Jvm.Cond.instanceMethod ({ cls := "SpecLoadSched", name := "store", desc := "(III)I" } : Jvm.MethodName)) ∈ lw_all := lw_g (lw_at lw_m1 108 rfl) rfl
theorem q136 : (Jvm.Cond.selects "SpecLoadSched" ({ cls := "SpecLoadSched", name := "store", desc := "(III)I" } : Jvm.MethodName) ({ cls := "SpecLoadSched", name := "store", desc := "(III)I" } : Jvm.MethodName)) ∈ lw_all := lw_g (lw_at lw_m1 109 rfl) rfl
theorem q137 : (Jvm.Cond.code ({ cls := "SpecLoadSched", name := "store", desc := "(III)I" } : Jvm.MethodName) prog_1_method_8_code (4 : Nat) (Option.some Jvm.ClassFile.FieldType.int)) ∈ lw_all := lw_g (lw_at lw_m1 110 rfl) rfl
theorem q139 : (Jvm.Cond.instanceMethod ({ cls := "SpecLoadSched", name := "leave", desc := "(I)I" } : Jvm.MethodName)) ∈ lw_all := lw_g (lw_at lw_m1 112 rfl) rfl
theorem q140 : (Jvm.Cond.selects "SpecLoadSched" ({ cls := "SpecLoadSched", name := "leave", desc := "(I)I" } : Jvm.MethodName) ({ cls := "SpecLoadSched", name := "leave", desc := "(I)I" } : Jvm.MethodName)) ∈ lw_all := lw_g (lw_at lw_m1 113 rfl) rfl
theorem q141 : (Jvm.Cond.code ({ cls := "SpecLoadSched", name := "leave", desc := "(I)I" } : Jvm.MethodName) prog_1_method_9_code (2 : Nat) (Option.some Jvm.ClassFile.FieldType.int)) ∈ lw_all := lw_g (lw_at lw_m1 114 rfl) rfl
theorem q143 : (Jvm.Cond.instanceMethod ({ cls := "SpecLoadSched", name := "size", desc := "()I" } : Jvm.MethodName)) ∈ lw_all := lw_g (lw_at lw_m1 116 rfl) rfl
theorem q144 : (Jvm.Cond.selects "SpecLoadSched" ({ cls := "SpecLoadSched", name := "size", desc := "()I" } : Jvm.MethodName) ({ cls := "SpecLoadSched", name := "size", desc := "()I" } : Jvm.MethodName)) ∈ lw_all := lw_g (lw_at lw_m1 117 rfl) rfl
theorem q145 : (Jvm.Cond.code ({ cls := "SpecLoadSched", name := "size", desc := "()I" } : Jvm.MethodName) prog_1_method_10_code (1 : Nat) (Option.some Jvm.ClassFile.FieldType.int)) ∈ lw_all := lw_g (lw_at lw_m1 118 rfl) rfl
theorem q147 : (Jvm.Cond.instanceMethod ({ cls := "SpecLoadSched", name := "clear", desc := "()V" } : Jvm.MethodName)) ∈ lw_all := lw_g (lw_at lw_m1 120 rfl) rfl
theorem q148 : (Jvm.Cond.selects "SpecLoadSched" ({ cls := "SpecLoadSched", name := "clear", desc := "()V" } : Jvm.MethodName) ({ cls := "SpecLoadSched", name := "clear", desc := "()V" } : Jvm.MethodName)) ∈ lw_all := lw_g (lw_at lw_m1 121 rfl) rfl
theorem q149 : (Jvm.Cond.code ({ cls := "SpecLoadSched", name := "clear", desc := "()V" } : Jvm.MethodName) prog_1_method_11_code (1 : Nat) (Option.none : Option Jvm.ClassFile.FieldType)) ∈ lw_all := lw_g (lw_at lw_m1 122 rfl) rfl
theorem q151 : (Jvm.Cond.instanceMethod ({ cls := "SpecLoadSched", name := "setRegister", desc := "(II)I" } : Jvm.MethodName)) ∈ lw_all := lw_g (lw_at lw_m1 124 rfl) rfl
theorem q152 : (Jvm.Cond.selects "SpecLoadSched" ({ cls := "SpecLoadSched", name := "setRegister", desc := "(II)I" } : Jvm.MethodName) ({ cls := "SpecLoadSched", name := "setRegister", desc := "(II)I" } : Jvm.MethodName)) ∈ lw_all := lw_g (lw_at lw_m1 125 rfl) rfl
theorem q153 : (Jvm.Cond.code ({ cls := "SpecLoadSched", name := "setRegister", desc := "(II)I" } : Jvm.MethodName) prog_1_method_12_code (3 : Nat) (Option.some Jvm.ClassFile.FieldType.int)) ∈ lw_all := lw_g (lw_at lw_m1 126 rfl) rfl
theorem q155 : (Jvm.Cond.instanceMethod ({ cls := "SpecLoadSched", name := "register", desc := "(I)I" } : Jvm.MethodName)) ∈ lw_all := lw_g (lw_at lw_m1 128 rfl) rfl
theorem q156 : (Jvm.Cond.selects "SpecLoadSched" ({ cls := "SpecLoadSched", name := "register", desc := "(I)I" } : Jvm.MethodName) ({ cls := "SpecLoadSched", name := "register", desc := "(I)I" } : Jvm.MethodName)) ∈ lw_all := lw_g (lw_at lw_m1 129 rfl) rfl
theorem q157 : (Jvm.Cond.code ({ cls := "SpecLoadSched", name := "register", desc := "(I)I" } : Jvm.MethodName) prog_1_method_13_code (2 : Nat) (Option.some Jvm.ClassFile.FieldType.int)) ∈ lw_all := lw_g (lw_at lw_m1 130 rfl) rfl
theorem q159 : (Jvm.Cond.instanceMethod ({ cls := "SpecLoadSched", name := "setWord", desc := "(II)I" } : Jvm.MethodName)) ∈ lw_all := lw_g (lw_at lw_m1 132 rfl) rfl
theorem q160 : (Jvm.Cond.selects "SpecLoadSched" ({ cls := "SpecLoadSched", name := "setWord", desc := "(II)I" } : Jvm.MethodName) ({ cls := "SpecLoadSched", name := "setWord", desc := "(II)I" } : Jvm.MethodName)) ∈ lw_all := lw_g (lw_at lw_m1 133 rfl) rfl
theorem q161 : (Jvm.Cond.code ({ cls := "SpecLoadSched", name := "setWord", desc := "(II)I" } : Jvm.MethodName) prog_1_method_15_code (3 : Nat) (Option.some Jvm.ClassFile.FieldType.int)) ∈ lw_all := lw_g (lw_at lw_m1 134 rfl) rfl
theorem q162 : (Jvm.Cond.methodLink "SpecLoadSched" (84 : Nat) ({ cls := "SpecLoadSched", name := "badAddress", desc := "(I)Z" } : Jvm.MethodName)) ∈ lw_all := lw_g (lw_at lw_m1 135 rfl) rfl
theorem q163 : (Jvm.Cond.privateMethod ({ cls := "SpecLoadSched", name := "badAddress", desc := "(I)Z" } : Jvm.MethodName)) ∈ lw_tbl := lw_at lw_m1 136 rfl
theorem q164 : (Jvm.Cond.instanceMethod ({ cls := "SpecLoadSched", name := "badAddress", desc := "(I)Z" } : Jvm.MethodName)) ∈ lw_all := lw_g (lw_at lw_m1 137 rfl) rfl
theorem q165 : (Jvm.Cond.code ({ cls := "SpecLoadSched", name := "badAddress", desc := "(I)Z" } : Jvm.MethodName) prog_1_method_14_code (2 : Nat) (Option.some Jvm.ClassFile.FieldType.boolean)) ∈ lw_all := lw_g (lw_at lw_m1 138 rfl) rfl
theorem q167 : (Jvm.Cond.instanceMethod ({ cls := "SpecLoadSched", name := "word", desc := "(I)I" } : Jvm.MethodName)) ∈ lw_all := lw_g (lw_at lw_m1 140 rfl) rfl
theorem q168 : (Jvm.Cond.selects "SpecLoadSched" ({ cls := "SpecLoadSched", name := "word", desc := "(I)I" } : Jvm.MethodName) ({ cls := "SpecLoadSched", name := "word", desc := "(I)I" } : Jvm.MethodName)) ∈ lw_all := lw_g (lw_at lw_m1 141 rfl) rfl
theorem q169 : (Jvm.Cond.code ({ cls := "SpecLoadSched", name := "word", desc := "(I)I" } : Jvm.MethodName) prog_1_method_16_code (2 : Nat) (Option.some Jvm.ClassFile.FieldType.int)) ∈ lw_all := lw_g (lw_at lw_m1 142 rfl) rfl
theorem q171 : (Jvm.Cond.instanceMethod ({ cls := "SpecLoadSched", name := "bar", desc := "(II)I" } : Jvm.MethodName)) ∈ lw_all := lw_g (lw_at lw_m1 144 rfl) rfl
theorem q172 : (Jvm.Cond.selects "SpecLoadSched" ({ cls := "SpecLoadSched", name := "bar", desc := "(II)I" } : Jvm.MethodName) ({ cls := "SpecLoadSched", name := "bar", desc := "(II)I" } : Jvm.MethodName)) ∈ lw_all := lw_g (lw_at lw_m1 145 rfl) rfl
theorem q173 : (Jvm.Cond.code ({ cls := "SpecLoadSched", name := "bar", desc := "(II)I" } : Jvm.MethodName) prog_1_method_17_code (4 : Nat) (Option.some Jvm.ClassFile.FieldType.int)) ∈ lw_all := lw_g (lw_at lw_m1 146 rfl) rfl
theorem q175 : (Jvm.Cond.instanceMethod ({ cls := "SpecLoadSched", name := "run", desc := "()I" } : Jvm.MethodName)) ∈ lw_all := lw_g (lw_at lw_m1 148 rfl) rfl
theorem q176 : (Jvm.Cond.selects "SpecLoadSched" ({ cls := "SpecLoadSched", name := "run", desc := "()I" } : Jvm.MethodName) ({ cls := "SpecLoadSched", name := "run", desc := "()I" } : Jvm.MethodName)) ∈ lw_all := lw_g (lw_at lw_m1 149 rfl) rfl
theorem q177 : (Jvm.Cond.code ({ cls := "SpecLoadSched", name := "run", desc := "()I" } : Jvm.MethodName) prog_1_method_38_code (3 : Nat) (Option.some Jvm.ClassFile.FieldType.int)) ∈ lw_all := lw_g (lw_at lw_m1 150 rfl) rfl
theorem q178 : (Jvm.Cond.methodLink "SpecLoadSched" (152 : Nat) ({ cls := "SpecLoadSched", name := "schedule", desc := "()V" } : Jvm.MethodName)) ∈ lw_all := lw_g (lw_at lw_m1 151 rfl) rfl
theorem q179 : (Jvm.Cond.privateMethod ({ cls := "SpecLoadSched", name := "schedule", desc := "()V" } : Jvm.MethodName)) ∈ lw_tbl := lw_at lw_m1 152 rfl
theorem q180 : (Jvm.Cond.instanceMethod ({ cls := "SpecLoadSched", name := "schedule", desc := "()V" } : Jvm.MethodName)) ∈ lw_all := lw_g (lw_at lw_m1 153 rfl) rfl
theorem q181 : (Jvm.Cond.code ({ cls := "SpecLoadSched", name := "schedule", desc := "()V" } : Jvm.MethodName) prog_1_method_29_code (2 : Nat) (Option.none : Option Jvm.ClassFile.FieldType)) ∈ lw_all := lw_g (lw_at lw_m1 154 rfl) rfl
theorem q182 : (Jvm.Cond.methodLink "SpecLoadSched" (118 : Nat) ({ cls := "SpecLoadSched", name := "orderAll", desc := "()V" } : Jvm.MethodName)) ∈ lw_all := lw_g (lw_at lw_m1 155 rfl) rfl
theorem q183 : (Jvm.Cond.privateMethod ({ cls := "SpecLoadSched", name := "orderAll", desc := "()V" } : Jvm.MethodName)) ∈ lw_tbl := lw_at lw_m1 156 rfl
theorem q184 : (Jvm.Cond.instanceMethod ({ cls := "SpecLoadSched", name := "orderAll", desc := "()V" } : Jvm.MethodName)) ∈ lw_all := lw_g (lw_at lw_m1 157 rfl) rfl
theorem q185 : (Jvm.Cond.code ({ cls := "SpecLoadSched", name := "orderAll", desc := "()V" } : Jvm.MethodName) prog_1_method_22_code (3 : Nat) (Option.none : Option Jvm.ClassFile.FieldType)) ∈ lw_all := lw_g (lw_at lw_m1 158 rfl) rfl
theorem q186 : (Jvm.Cond.methodLink "SpecLoadSched" (94 : Nat) ({ cls := "SpecLoadSched", name := "behind", desc := "(II)Z" } : Jvm.MethodName)) ∈ lw_all := lw_g (lw_at lw_m1 159 rfl) rfl
theorem q187 : (Jvm.Cond.privateMethod ({ cls := "SpecLoadSched", name := "behind", desc := "(II)Z" } : Jvm.MethodName)) ∈ lw_tbl := lw_at lw_m1 160 rfl
end
section
set_option maxRecDepth 100000
theorem q188 : (Jvm.Cond.instanceMethod ({ cls := "SpecLoadSched", name := "behind", desc := "(II)Z" } : Jvm.MethodName)) ∈ lw_all := lw_g (lw_at lw_m1 161 rfl) rfl
theorem q189 : (Jvm.Cond.code ({ cls := "SpecLoadSched", name := "behind", desc := "(II)Z" } : Jvm.MethodName) prog_1_method_20_code (3 : Nat) (Option.some Jvm.ClassFile.FieldType.boolean)) ∈ lw_all := lw_g (lw_at lw_m1 162 rfl) rfl
theorem q190 : (Jvm.Cond.methodLink "SpecLoadSched" (87 : Nat) ({ cls := "SpecLoadSched", name := "fence", desc := "(I)Z" } : Jvm.MethodName)) ∈ lw_all := lw_g (lw_at lw_m1 163 rfl) rfl
theorem q191 : (Jvm.Cond.privateMethod ({ cls := "SpecLoadSched", name := "fence", desc := "(I)Z" } : Jvm.MethodName)) ∈ lw_tbl := lw_at lw_m1 164 rfl
theorem q192 : (Jvm.Cond.instanceMethod ({ cls := "SpecLoadSched", name := "fence", desc := "(I)Z" } : Jvm.MethodName)) ∈ lw_all := lw_g (lw_at lw_m1 165 rfl) rfl
theorem q193 : (Jvm.Cond.code ({ cls := "SpecLoadSched", name := "fence", desc := "(I)Z" } : Jvm.MethodName) prog_1_method_18_code (2 : Nat) (Option.some Jvm.ClassFile.FieldType.boolean)) ∈ lw_all := lw_g (lw_at lw_m1 166 rfl) rfl
theorem q194 : (Jvm.Cond.methodLink "SpecLoadSched" (90 : Nat) ({ cls := "SpecLoadSched", name := "reads", desc := "(II)Z" } : Jvm.MethodName)) ∈ lw_all := lw_g (lw_at lw_m1 167 rfl) rfl
theorem q195 : (Jvm.Cond.privateMethod ({ cls := "SpecLoadSched", name := "reads", desc := "(II)Z" } : Jvm.MethodName)) ∈ lw_tbl := lw_at lw_m1 168 rfl
theorem q196 : (Jvm.Cond.instanceMethod ({ cls := "SpecLoadSched", name := "reads", desc := "(II)Z" } : Jvm.MethodName)) ∈ lw_all := lw_g (lw_at lw_m1 169 rfl) rfl
theorem q197 : (Jvm.Cond.code ({ cls := "SpecLoadSched", name := "reads", desc := "(II)Z" } : Jvm.MethodName) prog_1_method_19_code (3 : Nat) (Option.some Jvm.ClassFile.FieldType.boolean)) ∈ lw_all := lw_g (lw_at lw_m1 170 rfl) rfl
theorem q198 : (Jvm.Cond.methodLink "SpecLoadSched" (97 : Nat) ({ cls := "SpecLoadSched", name := "putForward", desc := "(I)V" } : Jvm.MethodName)) ∈ lw_all := lw_g (lw_at lw_m1 171 rfl) rfl
theorem q199 : (Jvm.Cond.privateMethod ({ cls := "SpecLoadSched", name := "putForward", desc := "(I)V" } : Jvm.MethodName)) ∈ lw_tbl := lw_at lw_m1 172 rfl
theorem q200 : (Jvm.Cond.instanceMethod ({ cls := "SpecLoadSched", name := "putForward", desc := "(I)V" } : Jvm.MethodName)) ∈ lw_all := lw_g (lw_at lw_m1 173 rfl) rfl
theorem q201 : (Jvm.Cond.code ({ cls := "SpecLoadSched", name := "putForward", desc := "(I)V" } : Jvm.MethodName) prog_1_method_23_code (4 : Nat) (Option.none : Option Jvm.ClassFile.FieldType)) ∈ lw_all := lw_g (lw_at lw_m1 174 rfl) rfl
theorem q202 : (Jvm.Cond.methodLink "SpecLoadSched" (101 : Nat) ({ cls := "SpecLoadSched", name := "writerBefore", desc := "(II)I" } : Jvm.MethodName)) ∈ lw_all := lw_g (lw_at lw_m1 175 rfl) rfl
theorem q203 : (Jvm.Cond.privateMethod ({ cls := "SpecLoadSched", name := "writerBefore", desc := "(II)I" } : Jvm.MethodName)) ∈ lw_tbl := lw_at lw_m1 176 rfl
theorem q204 : (Jvm.Cond.instanceMethod ({ cls := "SpecLoadSched", name := "writerBefore", desc := "(II)I" } : Jvm.MethodName)) ∈ lw_all := lw_g (lw_at lw_m1 177 rfl) rfl
theorem q205 : (Jvm.Cond.code ({ cls := "SpecLoadSched", name := "writerBefore", desc := "(II)I" } : Jvm.MethodName) prog_1_method_21_code (5 : Nat) (Option.some Jvm.ClassFile.FieldType.int)) ∈ lw_all := lw_g (lw_at lw_m1 178 rfl) rfl
theorem q206 : (Jvm.Cond.methodLink "SpecLoadSched" (121 : Nat) ({ cls := "SpecLoadSched", name := "measure", desc := "()V" } : Jvm.MethodName)) ∈ lw_all := lw_g (lw_at lw_m1 179 rfl) rfl
theorem q207 : (Jvm.Cond.privateMethod ({ cls := "SpecLoadSched", name := "measure", desc := "()V" } : Jvm.MethodName)) ∈ lw_tbl := lw_at lw_m1 180 rfl
theorem q208 : (Jvm.Cond.instanceMethod ({ cls := "SpecLoadSched", name := "measure", desc := "()V" } : Jvm.MethodName)) ∈ lw_all := lw_g (lw_at lw_m1 181 rfl) rfl
theorem q209 : (Jvm.Cond.code ({ cls := "SpecLoadSched", name := "measure", desc := "()V" } : Jvm.MethodName) prog_1_method_25_code (3 : Nat) (Option.none : Option Jvm.ClassFile.FieldType)) ∈ lw_all := lw_g (lw_at lw_m1 182 rfl) rfl
theorem q210 : (Jvm.Cond.methodLink "SpecLoadSched" (105 : Nat) ({ cls := "SpecLoadSched", name := "heightOf", desc := "(I)I" } : Jvm.MethodName)) ∈ lw_all := lw_g (lw_at lw_m1 183 rfl) rfl
theorem q211 : (Jvm.Cond.privateMethod ({ cls := "SpecLoadSched", name := "heightOf", desc := "(I)I" } : Jvm.MethodName)) ∈ lw_tbl := lw_at lw_m1 184 rfl
theorem q212 : (Jvm.Cond.instanceMethod ({ cls := "SpecLoadSched", name := "heightOf", desc := "(I)I" } : Jvm.MethodName)) ∈ lw_all := lw_g (lw_at lw_m1 185 rfl) rfl
theorem q213 : (Jvm.Cond.code ({ cls := "SpecLoadSched", name := "heightOf", desc := "(I)I" } : Jvm.MethodName) prog_1_method_26_code (4 : Nat) (Option.some Jvm.ClassFile.FieldType.int)) ∈ lw_all := lw_g (lw_at lw_m1 186 rfl) rfl
theorem q214 : (Jvm.Cond.methodLink "SpecLoadSched" (109 : Nat) ({ cls := "SpecLoadSched", name := "latency", desc := "(I)I" } : Jvm.MethodName)) ∈ lw_all := lw_g (lw_at lw_m1 187 rfl) rfl
theorem q215 : (Jvm.Cond.privateMethod ({ cls := "SpecLoadSched", name := "latency", desc := "(I)I" } : Jvm.MethodName)) ∈ lw_tbl := lw_at lw_m1 188 rfl
theorem q216 : (Jvm.Cond.instanceMethod ({ cls := "SpecLoadSched", name := "latency", desc := "(I)I" } : Jvm.MethodName)) ∈ lw_all := lw_g (lw_at lw_m1 189 rfl) rfl
theorem q217 : (Jvm.Cond.code ({ cls := "SpecLoadSched", name := "latency", desc := "(I)I" } : Jvm.MethodName) prog_1_method_24_code (2 : Nat) (Option.some Jvm.ClassFile.FieldType.int)) ∈ lw_all := lw_g (lw_at lw_m1 190 rfl) rfl
theorem q218 : (Jvm.Cond.methodLink "SpecLoadSched" (124 : Nat) ({ cls := "SpecLoadSched", name := "issueOne", desc := "(I)V" } : Jvm.MethodName)) ∈ lw_all := lw_g (lw_at lw_m1 191 rfl) rfl
theorem q219 : (Jvm.Cond.privateMethod ({ cls := "SpecLoadSched", name := "issueOne", desc := "(I)V" } : Jvm.MethodName)) ∈ lw_tbl := lw_at lw_m1 192 rfl
theorem q220 : (Jvm.Cond.instanceMethod ({ cls := "SpecLoadSched", name := "issueOne", desc := "(I)V" } : Jvm.MethodName)) ∈ lw_all := lw_g (lw_at lw_m1 193 rfl) rfl
theorem q221 : (Jvm.Cond.code ({ cls := "SpecLoadSched", name := "issueOne", desc := "(I)V" } : Jvm.MethodName) prog_1_method_28_code (5 : Nat) (Option.none : Option Jvm.ClassFile.FieldType)) ∈ lw_all := lw_g (lw_at lw_m1 194 rfl) rfl
theorem q222 : (Jvm.Cond.methodLink "SpecLoadSched" (112 : Nat) ({ cls := "SpecLoadSched", name := "mayIssue", desc := "(II)Z" } : Jvm.MethodName)) ∈ lw_all := lw_g (lw_at lw_m1 195 rfl) rfl
theorem q223 : (Jvm.Cond.privateMethod ({ cls := "SpecLoadSched", name := "mayIssue", desc := "(II)Z" } : Jvm.MethodName)) ∈ lw_tbl := lw_at lw_m1 196 rfl
theorem q224 : (Jvm.Cond.instanceMethod ({ cls := "SpecLoadSched", name := "mayIssue", desc := "(II)Z" } : Jvm.MethodName)) ∈ lw_all := lw_g (lw_at lw_m1 197 rfl) rfl
theorem q225 : (Jvm.Cond.code ({ cls := "SpecLoadSched", name := "mayIssue", desc := "(II)Z" } : Jvm.MethodName) prog_1_method_27_code (6 : Nat) (Option.some Jvm.ClassFile.FieldType.boolean)) ∈ lw_all := lw_g (lw_at lw_m1 198 rfl) rfl
theorem q226 : (Jvm.Cond.methodLink "SpecLoadSched" (155 : Nat) ({ cls := "SpecLoadSched", name := "execute", desc := "(I)I" } : Jvm.MethodName)) ∈ lw_all := lw_g (lw_at lw_m1 199 rfl) rfl
theorem q227 : (Jvm.Cond.privateMethod ({ cls := "SpecLoadSched", name := "execute", desc := "(I)I" } : Jvm.MethodName)) ∈ lw_tbl := lw_at lw_m1 200 rfl
theorem q228 : (Jvm.Cond.instanceMethod ({ cls := "SpecLoadSched", name := "execute", desc := "(I)I" } : Jvm.MethodName)) ∈ lw_all := lw_g (lw_at lw_m1 201 rfl) rfl
theorem q229 : (Jvm.Cond.code ({ cls := "SpecLoadSched", name := "execute", desc := "(I)I" } : Jvm.MethodName) prog_1_method_37_code (4 : Nat) (Option.some Jvm.ClassFile.FieldType.int)) ∈ lw_all := lw_g (lw_at lw_m1 202 rfl) rfl
theorem q230 : (Jvm.Cond.methodLink "SpecLoadSched" (143 : Nat) ({ cls := "SpecLoadSched", name := "loadEarly", desc := "(I)V" } : Jvm.MethodName)) ∈ lw_all := lw_g (lw_at lw_m1 203 rfl) rfl
theorem q231 : (Jvm.Cond.privateMethod ({ cls := "SpecLoadSched", name := "loadEarly", desc := "(I)V" } : Jvm.MethodName)) ∈ lw_tbl := lw_at lw_m1 204 rfl
theorem q232 : (Jvm.Cond.instanceMethod ({ cls := "SpecLoadSched", name := "loadEarly", desc := "(I)V" } : Jvm.MethodName)) ∈ lw_all := lw_g (lw_at lw_m1 205 rfl) rfl
theorem q233 : (Jvm.Cond.code ({ cls := "SpecLoadSched", name := "loadEarly", desc := "(I)V" } : Jvm.MethodName) prog_1_method_34_code (5 : Nat) (Option.none : Option Jvm.ClassFile.FieldType)) ∈ lw_all := lw_g (lw_at lw_m1 206 rfl) rfl
theorem q234 : (Jvm.Cond.methodLink "SpecLoadSched" (130 : Nat) ({ cls := "SpecLoadSched", name := "faults", desc := "(I)Z" } : Jvm.MethodName)) ∈ lw_all := lw_g (lw_at lw_m1 207 rfl) rfl
theorem q235 : (Jvm.Cond.privateMethod ({ cls := "SpecLoadSched", name := "faults", desc := "(I)Z" } : Jvm.MethodName)) ∈ lw_tbl := lw_at lw_m1 208 rfl
theorem q236 : (Jvm.Cond.instanceMethod ({ cls := "SpecLoadSched", name := "faults", desc := "(I)Z" } : Jvm.MethodName)) ∈ lw_all := lw_g (lw_at lw_m1 209 rfl) rfl
theorem q237 : (Jvm.Cond.code ({ cls := "SpecLoadSched", name := "faults", desc := "(I)Z" } : Jvm.MethodName) prog_1_method_30_code (2 : Nat) (Option.some Jvm.ClassFile.FieldType.boolean)) ∈ lw_all := lw_g (lw_at lw_m1 210 rfl) rfl
theorem q238 : (Jvm.Cond.methodLink "SpecLoadSched" (133 : Nat) ({ cls := "SpecLoadSched", name := "watch", desc := "(II)V" } : Jvm.MethodName)) ∈ lw_all := lw_g (lw_at lw_m1 211 rfl) rfl
theorem q239 : (Jvm.Cond.privateMethod ({ cls := "SpecLoadSched", name := "watch", desc := "(II)V" } : Jvm.MethodName)) ∈ lw_tbl := lw_at lw_m1 212 rfl
theorem q240 : (Jvm.Cond.instanceMethod ({ cls := "SpecLoadSched", name := "watch", desc := "(II)V" } : Jvm.MethodName)) ∈ lw_all := lw_g (lw_at lw_m1 213 rfl) rfl
theorem q241 : (Jvm.Cond.code ({ cls := "SpecLoadSched", name := "watch", desc := "(II)V" } : Jvm.MethodName) prog_1_method_31_code (3 : Nat) (Option.none : Option Jvm.ClassFile.FieldType)) ∈ lw_all := lw_g (lw_at lw_m1 214 rfl) rfl
theorem q242 : (Jvm.Cond.methodLink "SpecLoadSched" (146 : Nat) ({ cls := "SpecLoadSched", name := "check", desc := "(I)Z" } : Jvm.MethodName)) ∈ lw_all := lw_g (lw_at lw_m1 215 rfl) rfl
theorem q243 : (Jvm.Cond.privateMethod ({ cls := "SpecLoadSched", name := "check", desc := "(I)Z" } : Jvm.MethodName)) ∈ lw_tbl := lw_at lw_m1 216 rfl
theorem q244 : (Jvm.Cond.instanceMethod ({ cls := "SpecLoadSched", name := "check", desc := "(I)Z" } : Jvm.MethodName)) ∈ lw_all := lw_g (lw_at lw_m1 217 rfl) rfl
theorem q245 : (Jvm.Cond.code ({ cls := "SpecLoadSched", name := "check", desc := "(I)Z" } : Jvm.MethodName) prog_1_method_35_code (4 : Nat) (Option.some Jvm.ClassFile.FieldType.boolean)) ∈ lw_all := lw_g (lw_at lw_m1 218 rfl) rfl
theorem q246 : (Jvm.Cond.methodLink "SpecLoadSched" (137 : Nat) ({ cls := "SpecLoadSched", name := "stillWatched", desc := "(II)Z" } : Jvm.MethodName)) ∈ lw_all := lw_g (lw_at lw_m1 219 rfl) rfl
theorem q247 : (Jvm.Cond.privateMethod ({ cls := "SpecLoadSched", name := "stillWatched", desc := "(II)Z" } : Jvm.MethodName)) ∈ lw_tbl := lw_at lw_m1 220 rfl
theorem q248 : (Jvm.Cond.instanceMethod ({ cls := "SpecLoadSched", name := "stillWatched", desc := "(II)Z" } : Jvm.MethodName)) ∈ lw_all := lw_g (lw_at lw_m1 221 rfl) rfl
theorem q249 : (Jvm.Cond.code ({ cls := "SpecLoadSched", name := "stillWatched", desc := "(II)Z" } : Jvm.MethodName) prog_1_method_33_code (5 : Nat) (Option.some Jvm.ClassFile.FieldType.boolean)) ∈ lw_all := lw_g (lw_at lw_m1 222 rfl) rfl
theorem q250 : (Jvm.Cond.methodLink "SpecLoadSched" (149 : Nat) ({ cls := "SpecLoadSched", name := "storeAt", desc := "(I)Z" } : Jvm.MethodName)) ∈ lw_all := lw_g (lw_at lw_m1 223 rfl) rfl
theorem q251 : (Jvm.Cond.privateMethod ({ cls := "SpecLoadSched", name := "storeAt", desc := "(I)Z" } : Jvm.MethodName)) ∈ lw_tbl := lw_at lw_m1 224 rfl
theorem q252 : (Jvm.Cond.instanceMethod ({ cls := "SpecLoadSched", name := "storeAt", desc := "(I)Z" } : Jvm.MethodName)) ∈ lw_all := lw_g (lw_at lw_m1 225 rfl) rfl
theorem q253 : (Jvm.Cond.code ({ cls := "SpecLoadSched", name := "storeAt", desc := "(I)Z" } : Jvm.MethodName) prog_1_method_36_code (3 : Nat) (Option.some Jvm.ClassFile.FieldType.boolean)) ∈ lw_all := lw_g (lw_at lw_m1 226 rfl) rfl
theorem q254 : (Jvm.Cond.methodLink "SpecLoadSched" (140 : Nat) ({ cls := "SpecLoadSched", name := "stored", desc := "(I)V" } : Jvm.MethodName)) ∈ lw_all := lw_g (lw_at lw_m1 227 rfl) rfl
theorem q255 : (Jvm.Cond.privateMethod ({ cls := "SpecLoadSched", name := "stored", desc := "(I)V" } : Jvm.MethodName)) ∈ lw_tbl := lw_at lw_m1 228 rfl
theorem q256 : (Jvm.Cond.instanceMethod ({ cls := "SpecLoadSched", name := "stored", desc := "(I)V" } : Jvm.MethodName)) ∈ lw_all := lw_g (lw_at lw_m1 229 rfl) rfl
theorem q257 : (Jvm.Cond.code ({ cls := "SpecLoadSched", name := "stored", desc := "(I)V" } : Jvm.MethodName) prog_1_method_32_code (3 : Nat) (Option.none : Option Jvm.ClassFile.FieldType)) ∈ lw_all := lw_g (lw_at lw_m1 230 rfl) rfl
theorem q259 : (Jvm.Cond.instanceMethod ({ cls := "SpecLoadSched", name := "last", desc := "()I" } : Jvm.MethodName)) ∈ lw_all := lw_g (lw_at lw_m1 232 rfl) rfl
theorem q260 : (Jvm.Cond.selects "SpecLoadSched" ({ cls := "SpecLoadSched", name := "last", desc := "()I" } : Jvm.MethodName) ({ cls := "SpecLoadSched", name := "last", desc := "()I" } : Jvm.MethodName)) ∈ lw_all := lw_g (lw_at lw_m1 233 rfl) rfl
theorem q261 : (Jvm.Cond.code ({ cls := "SpecLoadSched", name := "last", desc := "()I" } : Jvm.MethodName) prog_1_method_39_code (1 : Nat) (Option.some Jvm.ClassFile.FieldType.int)) ∈ lw_all := lw_g (lw_at lw_m1 234 rfl) rfl
theorem q263 : (Jvm.Cond.instanceMethod ({ cls := "SpecLoadSched", name := "repeat", desc := "(I)I" } : Jvm.MethodName)) ∈ lw_all := lw_g (lw_at lw_m1 236 rfl) rfl
theorem q264 : (Jvm.Cond.selects "SpecLoadSched" ({ cls := "SpecLoadSched", name := "repeat", desc := "(I)I" } : Jvm.MethodName) ({ cls := "SpecLoadSched", name := "repeat", desc := "(I)I" } : Jvm.MethodName)) ∈ lw_all := lw_g (lw_at lw_m1 237 rfl) rfl
theorem q265 : (Jvm.Cond.code ({ cls := "SpecLoadSched", name := "repeat", desc := "(I)I" } : Jvm.MethodName) prog_1_method_40_code (7 : Nat) (Option.some Jvm.ClassFile.FieldType.int)) ∈ lw_all := lw_g (lw_at lw_m1 238 rfl) rfl
theorem q266 : (Jvm.Cond.methodLink "SpecLoadSched" (158 : Nat) ({ cls := "SpecLoadSched", name := "run", desc := "()I" } : Jvm.MethodName)) ∈ lw_all := lw_g (lw_at lw_m1 239 rfl) rfl
theorem in_X0 : ∀ w ∈ wsX00, w ∈ lw_all := lw_in wsX00 [61, 63, 65, 67, 69, 71, 73, 75, 77, 79, 81, 83, 85, 87, 89, 91, 93, 95, 97, 99, 101, 103, 105] (by decide +kernel) (by decide +kernel)
end
section
/-! SpecLoadSchedModel -/
set_option maxRecDepth 100000
def RX1 : String := "SpecLoadSchedModel"
def TX1 : u_T := fun k => match k with
  | 0 => ("SpecLoadSchedModel", "kind", "[I", true)
  | 1 => ("SpecLoadSchedModel", "first", "[I", true)
  | 2 => ("SpecLoadSchedModel", "second", "[I", true)
  | 3 => ("SpecLoadSchedModel", "third", "[I", true)
  | 4 => ("SpecLoadSchedModel", "size", "I", false)
  | 5 => ("SpecLoadSchedModel", "registers", "[I", true)
  | 6 => ("SpecLoadSchedModel", "words", "[I", true)
  | 7 => ("SpecLoadSchedModel", "barred", "[Z", true)
  | _ => ("SpecLoadSchedModel", "last", "I", false)
def tyX1 : Nat → FieldType := fun k => match k with
  | 0 => .array .int
  | 1 => .array .int
  | 2 => .array .int
  | 3 => .array .int
  | 4 => .int
  | 5 => .array .int
  | 6 => .array .int
  | 7 => .array .boolean
  | _ => .int
abbrev wsX10 : List Cond := u_ws RX1 TX1 9
theorem nmX1 : ∀ a, a < 9 → ∀ b, b < 9 → a ≠ b → (TX1 a).2.1 ≠ (TX1 b).2.1 := by decide +kernel
theorem tyX1_ok : ∀ k, k < 9 → parseFieldDescriptor (TX1 k).2.2.1 = some (tyX1 k) := by decide +kernel
abbrev cX1_init : ByteArray := prog_3_method_1_code
def yX1_init : MethodName := ⟨RX1, "<init>", "()V"⟩
theorem dX1_init_0 : decode cX1_init 0 = .ok (.aload_n 0, 1) := by decide +kernel
theorem dX1_init_1 : decode cX1_init 1 = .ok (.invokespecial 1, 3) := by decide +kernel
theorem dX1_init_4 : decode cX1_init 4 = .ok (.aload_n 0, 1) := by decide +kernel
theorem dX1_init_5 : decode cX1_init 5 = .ok (.bipush 14, 2) := by decide +kernel
theorem dX1_init_7 : decode cX1_init 7 = .ok (.newarray .int, 2) := by decide +kernel
theorem dX1_init_9 : decode cX1_init 9 = .ok (.putfield 7, 3) := by decide +kernel
theorem dX1_init_12 : decode cX1_init 12 = .ok (.aload_n 0, 1) := by decide +kernel
theorem dX1_init_13 : decode cX1_init 13 = .ok (.bipush 14, 2) := by decide +kernel
theorem dX1_init_15 : decode cX1_init 15 = .ok (.newarray .int, 2) := by decide +kernel
theorem dX1_init_17 : decode cX1_init 17 = .ok (.putfield 13, 3) := by decide +kernel
theorem dX1_init_20 : decode cX1_init 20 = .ok (.aload_n 0, 1) := by decide +kernel
theorem dX1_init_21 : decode cX1_init 21 = .ok (.bipush 14, 2) := by decide +kernel
theorem dX1_init_23 : decode cX1_init 23 = .ok (.newarray .int, 2) := by decide +kernel
theorem dX1_init_25 : decode cX1_init 25 = .ok (.putfield 16, 3) := by decide +kernel
theorem dX1_init_28 : decode cX1_init 28 = .ok (.aload_n 0, 1) := by decide +kernel
theorem dX1_init_29 : decode cX1_init 29 = .ok (.bipush 14, 2) := by decide +kernel
theorem dX1_init_31 : decode cX1_init 31 = .ok (.newarray .int, 2) := by decide +kernel
theorem dX1_init_33 : decode cX1_init 33 = .ok (.putfield 19, 3) := by decide +kernel
theorem dX1_init_36 : decode cX1_init 36 = .ok (.aload_n 0, 1) := by decide +kernel
theorem dX1_init_37 : decode cX1_init 37 = .ok (.bipush 8, 2) := by decide +kernel
theorem dX1_init_39 : decode cX1_init 39 = .ok (.newarray .int, 2) := by decide +kernel
theorem dX1_init_41 : decode cX1_init 41 = .ok (.putfield 22, 3) := by decide +kernel
theorem dX1_init_44 : decode cX1_init 44 = .ok (.aload_n 0, 1) := by decide +kernel
theorem dX1_init_45 : decode cX1_init 45 = .ok (.bipush 16, 2) := by decide +kernel
theorem dX1_init_47 : decode cX1_init 47 = .ok (.newarray .int, 2) := by decide +kernel
theorem dX1_init_49 : decode cX1_init 49 = .ok (.putfield 25, 3) := by decide +kernel
theorem dX1_init_52 : decode cX1_init 52 = .ok (.aload_n 0, 1) := by decide +kernel
theorem dX1_init_53 : decode cX1_init 53 = .ok (.bipush 16, 2) := by decide +kernel
theorem dX1_init_55 : decode cX1_init 55 = .ok (.newarray .boolean, 2) := by decide +kernel
theorem dX1_init_57 : decode cX1_init 57 = .ok (.putfield 28, 3) := by decide +kernel
theorem dX1_init_60 : decode cX1_init 60 = .ok (.aload_n 0, 1) := by decide +kernel
theorem dX1_init_61 : decode cX1_init 61 = .ok (.iconst (-1), 1) := by decide +kernel
theorem dX1_init_62 : decode cX1_init 62 = .ok (.putfield 32, 3) := by decide +kernel
theorem dX1_init_65 : decode cX1_init 65 = .ok (.return_, 1) := by decide +kernel
abbrev cX1_constant : ByteArray := prog_3_method_5_code
def yX1_constant : MethodName := ⟨RX1, "constant", "(II)I"⟩
theorem dX1_constant_0 : decode cX1_constant 0 = .ok (.aload_n 0, 1) := by decide +kernel
theorem dX1_constant_1 : decode cX1_constant 1 = .ok (.iload_n 1, 1) := by decide +kernel
theorem dX1_constant_2 : decode cX1_constant 2 = .ok (.invokevirtual 39, 3) := by decide +kernel
theorem dX1_constant_5 : decode cX1_constant 5 = .ok (.ifCond .ne 5, 3) := by decide +kernel
theorem dX1_constant_8 : decode cX1_constant 8 = .ok (.iconst (-1), 1) := by decide +kernel
theorem dX1_constant_9 : decode cX1_constant 9 = .ok (.ireturn, 1) := by decide +kernel
theorem dX1_constant_10 : decode cX1_constant 10 = .ok (.aload_n 0, 1) := by decide +kernel
theorem dX1_constant_11 : decode cX1_constant 11 = .ok (.iconst 0, 1) := by decide +kernel
theorem dX1_constant_12 : decode cX1_constant 12 = .ok (.iload_n 1, 1) := by decide +kernel
theorem dX1_constant_13 : decode cX1_constant 13 = .ok (.iload_n 2, 1) := by decide +kernel
theorem dX1_constant_14 : decode cX1_constant 14 = .ok (.iconst 0, 1) := by decide +kernel
theorem dX1_constant_15 : decode cX1_constant 15 = .ok (.invokevirtual 43, 3) := by decide +kernel
theorem dX1_constant_18 : decode cX1_constant 18 = .ok (.ireturn, 1) := by decide +kernel
abbrev cX1_isRegister : ByteArray := prog_3_method_2_code
def yX1_isRegister : MethodName := ⟨RX1, "isRegister", "(I)Z"⟩
theorem dX1_isRegister_0 : decode cX1_isRegister 0 = .ok (.iload_n 1, 1) := by decide +kernel
theorem dX1_isRegister_1 : decode cX1_isRegister 1 = .ok (.ifCond .lt 13, 3) := by decide +kernel
theorem dX1_isRegister_4 : decode cX1_isRegister 4 = .ok (.iload_n 1, 1) := by decide +kernel
theorem dX1_isRegister_5 : decode cX1_isRegister 5 = .ok (.bipush 7, 2) := by decide +kernel
theorem dX1_isRegister_7 : decode cX1_isRegister 7 = .ok (.if_icmp .gt 7, 3) := by decide +kernel
theorem dX1_isRegister_10 : decode cX1_isRegister 10 = .ok (.iconst 1, 1) := by decide +kernel
theorem dX1_isRegister_11 : decode cX1_isRegister 11 = .ok (.goto 4, 3) := by decide +kernel
theorem dX1_isRegister_14 : decode cX1_isRegister 14 = .ok (.iconst 0, 1) := by decide +kernel
theorem dX1_isRegister_15 : decode cX1_isRegister 15 = .ok (.ireturn, 1) := by decide +kernel
abbrev cX1_append : ByteArray := prog_3_method_4_code
def yX1_append : MethodName := ⟨RX1, "append", "(IIII)I"⟩
theorem dX1_append_0 : decode cX1_append 0 = .ok (.aload_n 0, 1) := by decide +kernel
theorem dX1_append_1 : decode cX1_append 1 = .ok (.getfield 36, 3) := by decide +kernel
theorem dX1_append_4 : decode cX1_append 4 = .ok (.bipush 14, 2) := by decide +kernel
theorem dX1_append_6 : decode cX1_append 6 = .ok (.if_icmp .ne 6, 3) := by decide +kernel
theorem dX1_append_9 : decode cX1_append 9 = .ok (.bipush (-2), 2) := by decide +kernel
theorem dX1_append_11 : decode cX1_append 11 = .ok (.ireturn, 1) := by decide +kernel
theorem dX1_append_12 : decode cX1_append 12 = .ok (.aload_n 0, 1) := by decide +kernel
theorem dX1_append_13 : decode cX1_append 13 = .ok (.getfield 7, 3) := by decide +kernel
theorem dX1_append_16 : decode cX1_append 16 = .ok (.aload_n 0, 1) := by decide +kernel
theorem dX1_append_17 : decode cX1_append 17 = .ok (.getfield 36, 3) := by decide +kernel
theorem dX1_append_20 : decode cX1_append 20 = .ok (.iload_n 1, 1) := by decide +kernel
theorem dX1_append_21 : decode cX1_append 21 = .ok (.iastore, 1) := by decide +kernel
theorem dX1_append_22 : decode cX1_append 22 = .ok (.aload_n 0, 1) := by decide +kernel
theorem dX1_append_23 : decode cX1_append 23 = .ok (.getfield 13, 3) := by decide +kernel
theorem dX1_append_26 : decode cX1_append 26 = .ok (.aload_n 0, 1) := by decide +kernel
theorem dX1_append_27 : decode cX1_append 27 = .ok (.getfield 36, 3) := by decide +kernel
theorem dX1_append_30 : decode cX1_append 30 = .ok (.iload_n 2, 1) := by decide +kernel
theorem dX1_append_31 : decode cX1_append 31 = .ok (.iastore, 1) := by decide +kernel
theorem dX1_append_32 : decode cX1_append 32 = .ok (.aload_n 0, 1) := by decide +kernel
theorem dX1_append_33 : decode cX1_append 33 = .ok (.getfield 16, 3) := by decide +kernel
theorem dX1_append_36 : decode cX1_append 36 = .ok (.aload_n 0, 1) := by decide +kernel
theorem dX1_append_37 : decode cX1_append 37 = .ok (.getfield 36, 3) := by decide +kernel
theorem dX1_append_40 : decode cX1_append 40 = .ok (.iload_n 3, 1) := by decide +kernel
theorem dX1_append_41 : decode cX1_append 41 = .ok (.iastore, 1) := by decide +kernel
theorem dX1_append_42 : decode cX1_append 42 = .ok (.aload_n 0, 1) := by decide +kernel
theorem dX1_append_43 : decode cX1_append 43 = .ok (.getfield 19, 3) := by decide +kernel
theorem dX1_append_46 : decode cX1_append 46 = .ok (.aload_n 0, 1) := by decide +kernel
theorem dX1_append_47 : decode cX1_append 47 = .ok (.getfield 36, 3) := by decide +kernel
theorem dX1_append_50 : decode cX1_append 50 = .ok (.iload 4, 2) := by decide +kernel
theorem dX1_append_52 : decode cX1_append 52 = .ok (.iastore, 1) := by decide +kernel
theorem dX1_append_53 : decode cX1_append 53 = .ok (.aload_n 0, 1) := by decide +kernel
theorem dX1_append_54 : decode cX1_append 54 = .ok (.dup, 1) := by decide +kernel
theorem dX1_append_55 : decode cX1_append 55 = .ok (.getfield 36, 3) := by decide +kernel
theorem dX1_append_58 : decode cX1_append 58 = .ok (.iconst 1, 1) := by decide +kernel
theorem dX1_append_59 : decode cX1_append 59 = .ok (.iadd, 1) := by decide +kernel
theorem dX1_append_60 : decode cX1_append 60 = .ok (.putfield 36, 3) := by decide +kernel
theorem dX1_append_63 : decode cX1_append 63 = .ok (.aload_n 0, 1) := by decide +kernel
theorem dX1_append_64 : decode cX1_append 64 = .ok (.getfield 36, 3) := by decide +kernel
theorem dX1_append_67 : decode cX1_append 67 = .ok (.iconst 1, 1) := by decide +kernel
theorem dX1_append_68 : decode cX1_append 68 = .ok (.isub, 1) := by decide +kernel
theorem dX1_append_69 : decode cX1_append 69 = .ok (.ireturn, 1) := by decide +kernel
abbrev cX1_add : ByteArray := prog_3_method_6_code
def yX1_add : MethodName := ⟨RX1, "add", "(III)I"⟩
theorem dX1_add_0 : decode cX1_add 0 = .ok (.aload_n 0, 1) := by decide +kernel
theorem dX1_add_1 : decode cX1_add 1 = .ok (.iload_n 1, 1) := by decide +kernel
theorem dX1_add_2 : decode cX1_add 2 = .ok (.invokevirtual 39, 3) := by decide +kernel
theorem dX1_add_5 : decode cX1_add 5 = .ok (.ifCond .eq 19, 3) := by decide +kernel
theorem dX1_add_8 : decode cX1_add 8 = .ok (.aload_n 0, 1) := by decide +kernel
theorem dX1_add_9 : decode cX1_add 9 = .ok (.iload_n 2, 1) := by decide +kernel
theorem dX1_add_10 : decode cX1_add 10 = .ok (.invokevirtual 39, 3) := by decide +kernel
theorem dX1_add_13 : decode cX1_add 13 = .ok (.ifCond .eq 11, 3) := by decide +kernel
theorem dX1_add_16 : decode cX1_add 16 = .ok (.aload_n 0, 1) := by decide +kernel
theorem dX1_add_17 : decode cX1_add 17 = .ok (.iload_n 3, 1) := by decide +kernel
theorem dX1_add_18 : decode cX1_add 18 = .ok (.invokevirtual 39, 3) := by decide +kernel
theorem dX1_add_21 : decode cX1_add 21 = .ok (.ifCond .ne 5, 3) := by decide +kernel
theorem dX1_add_24 : decode cX1_add 24 = .ok (.iconst (-1), 1) := by decide +kernel
theorem dX1_add_25 : decode cX1_add 25 = .ok (.ireturn, 1) := by decide +kernel
theorem dX1_add_26 : decode cX1_add 26 = .ok (.aload_n 0, 1) := by decide +kernel
theorem dX1_add_27 : decode cX1_add 27 = .ok (.iconst 1, 1) := by decide +kernel
theorem dX1_add_28 : decode cX1_add 28 = .ok (.iload_n 1, 1) := by decide +kernel
theorem dX1_add_29 : decode cX1_add 29 = .ok (.iload_n 2, 1) := by decide +kernel
theorem dX1_add_30 : decode cX1_add 30 = .ok (.iload_n 3, 1) := by decide +kernel
theorem dX1_add_31 : decode cX1_add 31 = .ok (.invokevirtual 43, 3) := by decide +kernel
theorem dX1_add_34 : decode cX1_add 34 = .ok (.ireturn, 1) := by decide +kernel
abbrev cX1_subtract : ByteArray := prog_3_method_7_code
def yX1_subtract : MethodName := ⟨RX1, "subtract", "(III)I"⟩
theorem dX1_subtract_0 : decode cX1_subtract 0 = .ok (.aload_n 0, 1) := by decide +kernel
theorem dX1_subtract_1 : decode cX1_subtract 1 = .ok (.iload_n 1, 1) := by decide +kernel
theorem dX1_subtract_2 : decode cX1_subtract 2 = .ok (.invokevirtual 39, 3) := by decide +kernel
theorem dX1_subtract_5 : decode cX1_subtract 5 = .ok (.ifCond .eq 19, 3) := by decide +kernel
theorem dX1_subtract_8 : decode cX1_subtract 8 = .ok (.aload_n 0, 1) := by decide +kernel
theorem dX1_subtract_9 : decode cX1_subtract 9 = .ok (.iload_n 2, 1) := by decide +kernel
theorem dX1_subtract_10 : decode cX1_subtract 10 = .ok (.invokevirtual 39, 3) := by decide +kernel
theorem dX1_subtract_13 : decode cX1_subtract 13 = .ok (.ifCond .eq 11, 3) := by decide +kernel
theorem dX1_subtract_16 : decode cX1_subtract 16 = .ok (.aload_n 0, 1) := by decide +kernel
theorem dX1_subtract_17 : decode cX1_subtract 17 = .ok (.iload_n 3, 1) := by decide +kernel
theorem dX1_subtract_18 : decode cX1_subtract 18 = .ok (.invokevirtual 39, 3) := by decide +kernel
theorem dX1_subtract_21 : decode cX1_subtract 21 = .ok (.ifCond .ne 5, 3) := by decide +kernel
theorem dX1_subtract_24 : decode cX1_subtract 24 = .ok (.iconst (-1), 1) := by decide +kernel
theorem dX1_subtract_25 : decode cX1_subtract 25 = .ok (.ireturn, 1) := by decide +kernel
theorem dX1_subtract_26 : decode cX1_subtract 26 = .ok (.aload_n 0, 1) := by decide +kernel
theorem dX1_subtract_27 : decode cX1_subtract 27 = .ok (.iconst 2, 1) := by decide +kernel
theorem dX1_subtract_28 : decode cX1_subtract 28 = .ok (.iload_n 1, 1) := by decide +kernel
theorem dX1_subtract_29 : decode cX1_subtract 29 = .ok (.iload_n 2, 1) := by decide +kernel
theorem dX1_subtract_30 : decode cX1_subtract 30 = .ok (.iload_n 3, 1) := by decide +kernel
theorem dX1_subtract_31 : decode cX1_subtract 31 = .ok (.invokevirtual 43, 3) := by decide +kernel
theorem dX1_subtract_34 : decode cX1_subtract 34 = .ok (.ireturn, 1) := by decide +kernel
abbrev cX1_load : ByteArray := prog_3_method_8_code
def yX1_load : MethodName := ⟨RX1, "load", "(III)I"⟩
theorem dX1_load_0 : decode cX1_load 0 = .ok (.aload_n 0, 1) := by decide +kernel
theorem dX1_load_1 : decode cX1_load 1 = .ok (.iload_n 1, 1) := by decide +kernel
theorem dX1_load_2 : decode cX1_load 2 = .ok (.invokevirtual 39, 3) := by decide +kernel
theorem dX1_load_5 : decode cX1_load 5 = .ok (.ifCond .eq 23, 3) := by decide +kernel
theorem dX1_load_8 : decode cX1_load 8 = .ok (.aload_n 0, 1) := by decide +kernel
theorem dX1_load_9 : decode cX1_load 9 = .ok (.iload_n 2, 1) := by decide +kernel
theorem dX1_load_10 : decode cX1_load 10 = .ok (.invokevirtual 39, 3) := by decide +kernel
theorem dX1_load_13 : decode cX1_load 13 = .ok (.ifCond .eq 15, 3) := by decide +kernel
theorem dX1_load_16 : decode cX1_load 16 = .ok (.iload_n 3, 1) := by decide +kernel
theorem dX1_load_17 : decode cX1_load 17 = .ok (.bipush (-8), 2) := by decide +kernel
theorem dX1_load_19 : decode cX1_load 19 = .ok (.if_icmp .lt 9, 3) := by decide +kernel
theorem dX1_load_22 : decode cX1_load 22 = .ok (.iload_n 3, 1) := by decide +kernel
theorem dX1_load_23 : decode cX1_load 23 = .ok (.bipush 15, 2) := by decide +kernel
theorem dX1_load_25 : decode cX1_load 25 = .ok (.if_icmp .le 5, 3) := by decide +kernel
theorem dX1_load_28 : decode cX1_load 28 = .ok (.iconst (-1), 1) := by decide +kernel
theorem dX1_load_29 : decode cX1_load 29 = .ok (.ireturn, 1) := by decide +kernel
theorem dX1_load_30 : decode cX1_load 30 = .ok (.aload_n 0, 1) := by decide +kernel
theorem dX1_load_31 : decode cX1_load 31 = .ok (.iconst 3, 1) := by decide +kernel
theorem dX1_load_32 : decode cX1_load 32 = .ok (.iload_n 1, 1) := by decide +kernel
theorem dX1_load_33 : decode cX1_load 33 = .ok (.iload_n 2, 1) := by decide +kernel
theorem dX1_load_34 : decode cX1_load 34 = .ok (.iload_n 3, 1) := by decide +kernel
theorem dX1_load_35 : decode cX1_load 35 = .ok (.invokevirtual 43, 3) := by decide +kernel
theorem dX1_load_38 : decode cX1_load 38 = .ok (.ireturn, 1) := by decide +kernel
abbrev cX1_store : ByteArray := prog_3_method_9_code
def yX1_store : MethodName := ⟨RX1, "store", "(III)I"⟩
theorem dX1_store_0 : decode cX1_store 0 = .ok (.aload_n 0, 1) := by decide +kernel
theorem dX1_store_1 : decode cX1_store 1 = .ok (.iload_n 1, 1) := by decide +kernel
theorem dX1_store_2 : decode cX1_store 2 = .ok (.invokevirtual 39, 3) := by decide +kernel
theorem dX1_store_5 : decode cX1_store 5 = .ok (.ifCond .eq 23, 3) := by decide +kernel
theorem dX1_store_8 : decode cX1_store 8 = .ok (.aload_n 0, 1) := by decide +kernel
theorem dX1_store_9 : decode cX1_store 9 = .ok (.iload_n 3, 1) := by decide +kernel
theorem dX1_store_10 : decode cX1_store 10 = .ok (.invokevirtual 39, 3) := by decide +kernel
theorem dX1_store_13 : decode cX1_store 13 = .ok (.ifCond .eq 15, 3) := by decide +kernel
theorem dX1_store_16 : decode cX1_store 16 = .ok (.iload_n 2, 1) := by decide +kernel
theorem dX1_store_17 : decode cX1_store 17 = .ok (.bipush (-8), 2) := by decide +kernel
theorem dX1_store_19 : decode cX1_store 19 = .ok (.if_icmp .lt 9, 3) := by decide +kernel
theorem dX1_store_22 : decode cX1_store 22 = .ok (.iload_n 2, 1) := by decide +kernel
theorem dX1_store_23 : decode cX1_store 23 = .ok (.bipush 15, 2) := by decide +kernel
theorem dX1_store_25 : decode cX1_store 25 = .ok (.if_icmp .le 5, 3) := by decide +kernel
theorem dX1_store_28 : decode cX1_store 28 = .ok (.iconst (-1), 1) := by decide +kernel
theorem dX1_store_29 : decode cX1_store 29 = .ok (.ireturn, 1) := by decide +kernel
theorem dX1_store_30 : decode cX1_store 30 = .ok (.aload_n 0, 1) := by decide +kernel
theorem dX1_store_31 : decode cX1_store 31 = .ok (.iconst 4, 1) := by decide +kernel
theorem dX1_store_32 : decode cX1_store 32 = .ok (.iload_n 1, 1) := by decide +kernel
theorem dX1_store_33 : decode cX1_store 33 = .ok (.iload_n 2, 1) := by decide +kernel
theorem dX1_store_34 : decode cX1_store 34 = .ok (.iload_n 3, 1) := by decide +kernel
theorem dX1_store_35 : decode cX1_store 35 = .ok (.invokevirtual 43, 3) := by decide +kernel
theorem dX1_store_38 : decode cX1_store 38 = .ok (.ireturn, 1) := by decide +kernel
abbrev cX1_leave : ByteArray := prog_3_method_10_code
def yX1_leave : MethodName := ⟨RX1, "leave", "(I)I"⟩
theorem dX1_leave_0 : decode cX1_leave 0 = .ok (.aload_n 0, 1) := by decide +kernel
theorem dX1_leave_1 : decode cX1_leave 1 = .ok (.iload_n 1, 1) := by decide +kernel
theorem dX1_leave_2 : decode cX1_leave 2 = .ok (.invokevirtual 39, 3) := by decide +kernel
theorem dX1_leave_5 : decode cX1_leave 5 = .ok (.ifCond .ne 5, 3) := by decide +kernel
theorem dX1_leave_8 : decode cX1_leave 8 = .ok (.iconst (-1), 1) := by decide +kernel
theorem dX1_leave_9 : decode cX1_leave 9 = .ok (.ireturn, 1) := by decide +kernel
theorem dX1_leave_10 : decode cX1_leave 10 = .ok (.aload_n 0, 1) := by decide +kernel
theorem dX1_leave_11 : decode cX1_leave 11 = .ok (.iconst 5, 1) := by decide +kernel
theorem dX1_leave_12 : decode cX1_leave 12 = .ok (.iload_n 1, 1) := by decide +kernel
theorem dX1_leave_13 : decode cX1_leave 13 = .ok (.iconst 0, 1) := by decide +kernel
theorem dX1_leave_14 : decode cX1_leave 14 = .ok (.iconst 0, 1) := by decide +kernel
theorem dX1_leave_15 : decode cX1_leave 15 = .ok (.invokevirtual 43, 3) := by decide +kernel
theorem dX1_leave_18 : decode cX1_leave 18 = .ok (.ireturn, 1) := by decide +kernel
abbrev cX1_size : ByteArray := prog_3_method_11_code
def yX1_size : MethodName := ⟨RX1, "size", "()I"⟩
theorem dX1_size_0 : decode cX1_size 0 = .ok (.aload_n 0, 1) := by decide +kernel
theorem dX1_size_1 : decode cX1_size 1 = .ok (.getfield 36, 3) := by decide +kernel
theorem dX1_size_4 : decode cX1_size 4 = .ok (.ireturn, 1) := by decide +kernel
abbrev cX1_clear : ByteArray := prog_3_method_12_code
def yX1_clear : MethodName := ⟨RX1, "clear", "()V"⟩
theorem dX1_clear_0 : decode cX1_clear 0 = .ok (.aload_n 0, 1) := by decide +kernel
theorem dX1_clear_1 : decode cX1_clear 1 = .ok (.iconst 0, 1) := by decide +kernel
theorem dX1_clear_2 : decode cX1_clear 2 = .ok (.putfield 36, 3) := by decide +kernel
theorem dX1_clear_5 : decode cX1_clear 5 = .ok (.return_, 1) := by decide +kernel
abbrev cX1_setRegister : ByteArray := prog_3_method_13_code
def yX1_setRegister : MethodName := ⟨RX1, "setRegister", "(II)I"⟩
theorem dX1_setRegister_0 : decode cX1_setRegister 0 = .ok (.aload_n 0, 1) := by decide +kernel
theorem dX1_setRegister_1 : decode cX1_setRegister 1 = .ok (.iload_n 1, 1) := by decide +kernel
theorem dX1_setRegister_2 : decode cX1_setRegister 2 = .ok (.invokevirtual 39, 3) := by decide +kernel
theorem dX1_setRegister_5 : decode cX1_setRegister 5 = .ok (.ifCond .ne 5, 3) := by decide +kernel
theorem dX1_setRegister_8 : decode cX1_setRegister 8 = .ok (.iconst (-1), 1) := by decide +kernel
theorem dX1_setRegister_9 : decode cX1_setRegister 9 = .ok (.ireturn, 1) := by decide +kernel
theorem dX1_setRegister_10 : decode cX1_setRegister 10 = .ok (.aload_n 0, 1) := by decide +kernel
theorem dX1_setRegister_11 : decode cX1_setRegister 11 = .ok (.getfield 22, 3) := by decide +kernel
theorem dX1_setRegister_14 : decode cX1_setRegister 14 = .ok (.iload_n 1, 1) := by decide +kernel
theorem dX1_setRegister_15 : decode cX1_setRegister 15 = .ok (.iload_n 2, 1) := by decide +kernel
theorem dX1_setRegister_16 : decode cX1_setRegister 16 = .ok (.iastore, 1) := by decide +kernel
theorem dX1_setRegister_17 : decode cX1_setRegister 17 = .ok (.iconst 0, 1) := by decide +kernel
theorem dX1_setRegister_18 : decode cX1_setRegister 18 = .ok (.ireturn, 1) := by decide +kernel
abbrev cX1_register : ByteArray := prog_3_method_14_code
def yX1_register : MethodName := ⟨RX1, "register", "(I)I"⟩
theorem dX1_register_0 : decode cX1_register 0 = .ok (.aload_n 0, 1) := by decide +kernel
theorem dX1_register_1 : decode cX1_register 1 = .ok (.iload_n 1, 1) := by decide +kernel
theorem dX1_register_2 : decode cX1_register 2 = .ok (.invokevirtual 39, 3) := by decide +kernel
theorem dX1_register_5 : decode cX1_register 5 = .ok (.ifCond .eq 12, 3) := by decide +kernel
theorem dX1_register_8 : decode cX1_register 8 = .ok (.aload_n 0, 1) := by decide +kernel
theorem dX1_register_9 : decode cX1_register 9 = .ok (.getfield 22, 3) := by decide +kernel
theorem dX1_register_12 : decode cX1_register 12 = .ok (.iload_n 1, 1) := by decide +kernel
theorem dX1_register_13 : decode cX1_register 13 = .ok (.iaload, 1) := by decide +kernel
theorem dX1_register_14 : decode cX1_register 14 = .ok (.goto 4, 3) := by decide +kernel
theorem dX1_register_17 : decode cX1_register 17 = .ok (.iconst 0, 1) := by decide +kernel
theorem dX1_register_18 : decode cX1_register 18 = .ok (.ireturn, 1) := by decide +kernel
abbrev cX1_setWord : ByteArray := prog_3_method_15_code
def yX1_setWord : MethodName := ⟨RX1, "setWord", "(II)I"⟩
theorem dX1_setWord_0 : decode cX1_setWord 0 = .ok (.aload_n 0, 1) := by decide +kernel
theorem dX1_setWord_1 : decode cX1_setWord 1 = .ok (.iload_n 1, 1) := by decide +kernel
theorem dX1_setWord_2 : decode cX1_setWord 2 = .ok (.invokevirtual 47, 3) := by decide +kernel
theorem dX1_setWord_5 : decode cX1_setWord 5 = .ok (.ifCond .ne 5, 3) := by decide +kernel
theorem dX1_setWord_8 : decode cX1_setWord 8 = .ok (.iconst (-1), 1) := by decide +kernel
theorem dX1_setWord_9 : decode cX1_setWord 9 = .ok (.ireturn, 1) := by decide +kernel
theorem dX1_setWord_10 : decode cX1_setWord 10 = .ok (.aload_n 0, 1) := by decide +kernel
theorem dX1_setWord_11 : decode cX1_setWord 11 = .ok (.getfield 25, 3) := by decide +kernel
theorem dX1_setWord_14 : decode cX1_setWord 14 = .ok (.iload_n 1, 1) := by decide +kernel
theorem dX1_setWord_15 : decode cX1_setWord 15 = .ok (.iload_n 2, 1) := by decide +kernel
theorem dX1_setWord_16 : decode cX1_setWord 16 = .ok (.iastore, 1) := by decide +kernel
theorem dX1_setWord_17 : decode cX1_setWord 17 = .ok (.iconst 0, 1) := by decide +kernel
theorem dX1_setWord_18 : decode cX1_setWord 18 = .ok (.ireturn, 1) := by decide +kernel
abbrev cX1_isAddress : ByteArray := prog_3_method_3_code
def yX1_isAddress : MethodName := ⟨RX1, "isAddress", "(I)Z"⟩
theorem dX1_isAddress_0 : decode cX1_isAddress 0 = .ok (.iload_n 1, 1) := by decide +kernel
theorem dX1_isAddress_1 : decode cX1_isAddress 1 = .ok (.ifCond .lt 13, 3) := by decide +kernel
theorem dX1_isAddress_4 : decode cX1_isAddress 4 = .ok (.iload_n 1, 1) := by decide +kernel
theorem dX1_isAddress_5 : decode cX1_isAddress 5 = .ok (.bipush 15, 2) := by decide +kernel
theorem dX1_isAddress_7 : decode cX1_isAddress 7 = .ok (.if_icmp .gt 7, 3) := by decide +kernel
theorem dX1_isAddress_10 : decode cX1_isAddress 10 = .ok (.iconst 1, 1) := by decide +kernel
theorem dX1_isAddress_11 : decode cX1_isAddress 11 = .ok (.goto 4, 3) := by decide +kernel
theorem dX1_isAddress_14 : decode cX1_isAddress 14 = .ok (.iconst 0, 1) := by decide +kernel
theorem dX1_isAddress_15 : decode cX1_isAddress 15 = .ok (.ireturn, 1) := by decide +kernel
abbrev cX1_word : ByteArray := prog_3_method_16_code
def yX1_word : MethodName := ⟨RX1, "word", "(I)I"⟩
theorem dX1_word_0 : decode cX1_word 0 = .ok (.aload_n 0, 1) := by decide +kernel
theorem dX1_word_1 : decode cX1_word 1 = .ok (.iload_n 1, 1) := by decide +kernel
theorem dX1_word_2 : decode cX1_word 2 = .ok (.invokevirtual 47, 3) := by decide +kernel
theorem dX1_word_5 : decode cX1_word 5 = .ok (.ifCond .eq 12, 3) := by decide +kernel
theorem dX1_word_8 : decode cX1_word 8 = .ok (.aload_n 0, 1) := by decide +kernel
theorem dX1_word_9 : decode cX1_word 9 = .ok (.getfield 25, 3) := by decide +kernel
theorem dX1_word_12 : decode cX1_word 12 = .ok (.iload_n 1, 1) := by decide +kernel
theorem dX1_word_13 : decode cX1_word 13 = .ok (.iaload, 1) := by decide +kernel
theorem dX1_word_14 : decode cX1_word 14 = .ok (.goto 4, 3) := by decide +kernel
theorem dX1_word_17 : decode cX1_word 17 = .ok (.iconst 0, 1) := by decide +kernel
theorem dX1_word_18 : decode cX1_word 18 = .ok (.ireturn, 1) := by decide +kernel
abbrev cX1_bar : ByteArray := prog_3_method_17_code
def yX1_bar : MethodName := ⟨RX1, "bar", "(II)I"⟩
theorem dX1_bar_0 : decode cX1_bar 0 = .ok (.aload_n 0, 1) := by decide +kernel
theorem dX1_bar_1 : decode cX1_bar 1 = .ok (.iload_n 1, 1) := by decide +kernel
theorem dX1_bar_2 : decode cX1_bar 2 = .ok (.invokevirtual 47, 3) := by decide +kernel
theorem dX1_bar_5 : decode cX1_bar 5 = .ok (.ifCond .ne 5, 3) := by decide +kernel
theorem dX1_bar_8 : decode cX1_bar 8 = .ok (.iconst (-1), 1) := by decide +kernel
theorem dX1_bar_9 : decode cX1_bar 9 = .ok (.ireturn, 1) := by decide +kernel
theorem dX1_bar_10 : decode cX1_bar 10 = .ok (.aload_n 0, 1) := by decide +kernel
theorem dX1_bar_11 : decode cX1_bar 11 = .ok (.getfield 28, 3) := by decide +kernel
theorem dX1_bar_14 : decode cX1_bar 14 = .ok (.iload_n 1, 1) := by decide +kernel
theorem dX1_bar_15 : decode cX1_bar 15 = .ok (.baload, 1) := by decide +kernel
theorem dX1_bar_16 : decode cX1_bar 16 = .ok (.ifCond .eq 7, 3) := by decide +kernel
theorem dX1_bar_19 : decode cX1_bar 19 = .ok (.iconst 1, 1) := by decide +kernel
theorem dX1_bar_20 : decode cX1_bar 20 = .ok (.goto 4, 3) := by decide +kernel
theorem dX1_bar_23 : decode cX1_bar 23 = .ok (.iconst 0, 1) := by decide +kernel
theorem dX1_bar_24 : decode cX1_bar 24 = .ok (.istore_n 3, 1) := by decide +kernel
theorem dX1_bar_25 : decode cX1_bar 25 = .ok (.aload_n 0, 1) := by decide +kernel
theorem dX1_bar_26 : decode cX1_bar 26 = .ok (.getfield 28, 3) := by decide +kernel
theorem dX1_bar_29 : decode cX1_bar 29 = .ok (.iload_n 1, 1) := by decide +kernel
theorem dX1_bar_30 : decode cX1_bar 30 = .ok (.iload_n 2, 1) := by decide +kernel
theorem dX1_bar_31 : decode cX1_bar 31 = .ok (.ifCond .eq 7, 3) := by decide +kernel
theorem dX1_bar_34 : decode cX1_bar 34 = .ok (.iconst 1, 1) := by decide +kernel
theorem dX1_bar_35 : decode cX1_bar 35 = .ok (.goto 4, 3) := by decide +kernel
theorem dX1_bar_38 : decode cX1_bar 38 = .ok (.iconst 0, 1) := by decide +kernel
theorem dX1_bar_39 : decode cX1_bar 39 = .ok (.bastore, 1) := by decide +kernel
theorem dX1_bar_40 : decode cX1_bar 40 = .ok (.iload_n 3, 1) := by decide +kernel
theorem dX1_bar_41 : decode cX1_bar 41 = .ok (.ireturn, 1) := by decide +kernel
abbrev cX1_run : ByteArray := prog_3_method_19_code
def yX1_run : MethodName := ⟨RX1, "run", "()I"⟩
theorem dX1_run_0 : decode cX1_run 0 = .ok (.aload_n 0, 1) := by decide +kernel
theorem dX1_run_1 : decode cX1_run 1 = .ok (.iconst 0, 1) := by decide +kernel
theorem dX1_run_2 : decode cX1_run 2 = .ok (.putfield 32, 3) := by decide +kernel
theorem dX1_run_5 : decode cX1_run 5 = .ok (.iconst 0, 1) := by decide +kernel
theorem dX1_run_6 : decode cX1_run 6 = .ok (.istore_n 1, 1) := by decide +kernel
theorem dX1_run_7 : decode cX1_run 7 = .ok (.iload_n 1, 1) := by decide +kernel
theorem dX1_run_8 : decode cX1_run 8 = .ok (.aload_n 0, 1) := by decide +kernel
theorem dX1_run_9 : decode cX1_run 9 = .ok (.getfield 36, 3) := by decide +kernel
theorem dX1_run_12 : decode cX1_run 12 = .ok (.if_icmp .ge 35, 3) := by decide +kernel
theorem dX1_run_15 : decode cX1_run 15 = .ok (.aload_n 0, 1) := by decide +kernel
theorem dX1_run_16 : decode cX1_run 16 = .ok (.getfield 32, 3) := by decide +kernel
theorem dX1_run_19 : decode cX1_run 19 = .ok (.ifCond .ne 28, 3) := by decide +kernel
theorem dX1_run_22 : decode cX1_run 22 = .ok (.aload_n 0, 1) := by decide +kernel
theorem dX1_run_23 : decode cX1_run 23 = .ok (.iload_n 1, 1) := by decide +kernel
theorem dX1_run_24 : decode cX1_run 24 = .ok (.invokevirtual 50, 3) := by decide +kernel
theorem dX1_run_27 : decode cX1_run 27 = .ok (.istore_n 2, 1) := by decide +kernel
theorem dX1_run_28 : decode cX1_run 28 = .ok (.iload_n 2, 1) := by decide +kernel
theorem dX1_run_29 : decode cX1_run 29 = .ok (.ifCond .eq 12, 3) := by decide +kernel
theorem dX1_run_32 : decode cX1_run 32 = .ok (.aload_n 0, 1) := by decide +kernel
theorem dX1_run_33 : decode cX1_run 33 = .ok (.iload_n 2, 1) := by decide +kernel
theorem dX1_run_34 : decode cX1_run 34 = .ok (.iconst 4, 1) := by decide +kernel
theorem dX1_run_35 : decode cX1_run 35 = .ok (.iload_n 1, 1) := by decide +kernel
theorem dX1_run_36 : decode cX1_run 36 = .ok (.imul, 1) := by decide +kernel
theorem dX1_run_37 : decode cX1_run 37 = .ok (.iadd, 1) := by decide +kernel
theorem dX1_run_38 : decode cX1_run 38 = .ok (.putfield 32, 3) := by decide +kernel
theorem dX1_run_41 : decode cX1_run 41 = .ok (.iinc 1 1, 3) := by decide +kernel
theorem dX1_run_44 : decode cX1_run 44 = .ok (.goto (-37), 3) := by decide +kernel
theorem dX1_run_47 : decode cX1_run 47 = .ok (.aload_n 0, 1) := by decide +kernel
theorem dX1_run_48 : decode cX1_run 48 = .ok (.getfield 32, 3) := by decide +kernel
theorem dX1_run_51 : decode cX1_run 51 = .ok (.ireturn, 1) := by decide +kernel
abbrev cX1_execute : ByteArray := prog_3_method_18_code
def yX1_execute : MethodName := ⟨RX1, "execute", "(I)I"⟩
theorem dX1_execute_0 : decode cX1_execute 0 = .ok (.aload_n 0, 1) := by decide +kernel
theorem dX1_execute_1 : decode cX1_execute 1 = .ok (.getfield 13, 3) := by decide +kernel
theorem dX1_execute_4 : decode cX1_execute 4 = .ok (.iload_n 1, 1) := by decide +kernel
theorem dX1_execute_5 : decode cX1_execute 5 = .ok (.iaload, 1) := by decide +kernel
theorem dX1_execute_6 : decode cX1_execute 6 = .ok (.istore_n 2, 1) := by decide +kernel
theorem dX1_execute_7 : decode cX1_execute 7 = .ok (.aload_n 0, 1) := by decide +kernel
theorem dX1_execute_8 : decode cX1_execute 8 = .ok (.getfield 16, 3) := by decide +kernel
theorem dX1_execute_11 : decode cX1_execute 11 = .ok (.iload_n 1, 1) := by decide +kernel
theorem dX1_execute_12 : decode cX1_execute 12 = .ok (.iaload, 1) := by decide +kernel
theorem dX1_execute_13 : decode cX1_execute 13 = .ok (.istore_n 3, 1) := by decide +kernel
theorem dX1_execute_14 : decode cX1_execute 14 = .ok (.aload_n 0, 1) := by decide +kernel
theorem dX1_execute_15 : decode cX1_execute 15 = .ok (.getfield 19, 3) := by decide +kernel
theorem dX1_execute_18 : decode cX1_execute 18 = .ok (.iload_n 1, 1) := by decide +kernel
theorem dX1_execute_19 : decode cX1_execute 19 = .ok (.iaload, 1) := by decide +kernel
theorem dX1_execute_20 : decode cX1_execute 20 = .ok (.istore 4, 2) := by decide +kernel
theorem dX1_execute_22 : decode cX1_execute 22 = .ok (.aload_n 0, 1) := by decide +kernel
theorem dX1_execute_23 : decode cX1_execute 23 = .ok (.getfield 7, 3) := by decide +kernel
theorem dX1_execute_26 : decode cX1_execute 26 = .ok (.iload_n 1, 1) := by decide +kernel
theorem dX1_execute_27 : decode cX1_execute 27 = .ok (.iaload, 1) := by decide +kernel
theorem dX1_execute_28 : decode cX1_execute 28 = .ok (.ifCond .ne 12, 3) := by decide +kernel
theorem dX1_execute_31 : decode cX1_execute 31 = .ok (.aload_n 0, 1) := by decide +kernel
theorem dX1_execute_32 : decode cX1_execute 32 = .ok (.getfield 22, 3) := by decide +kernel
theorem dX1_execute_35 : decode cX1_execute 35 = .ok (.iload_n 2, 1) := by decide +kernel
theorem dX1_execute_36 : decode cX1_execute 36 = .ok (.iload_n 3, 1) := by decide +kernel
theorem dX1_execute_37 : decode cX1_execute 37 = .ok (.iastore, 1) := by decide +kernel
theorem dX1_execute_38 : decode cX1_execute 38 = .ok (.iconst 0, 1) := by decide +kernel
theorem dX1_execute_39 : decode cX1_execute 39 = .ok (.ireturn, 1) := by decide +kernel
theorem dX1_execute_40 : decode cX1_execute 40 = .ok (.aload_n 0, 1) := by decide +kernel
theorem dX1_execute_41 : decode cX1_execute 41 = .ok (.getfield 7, 3) := by decide +kernel
theorem dX1_execute_44 : decode cX1_execute 44 = .ok (.iload_n 1, 1) := by decide +kernel
theorem dX1_execute_45 : decode cX1_execute 45 = .ok (.iaload, 1) := by decide +kernel
theorem dX1_execute_46 : decode cX1_execute 46 = .ok (.iconst 1, 1) := by decide +kernel
theorem dX1_execute_47 : decode cX1_execute 47 = .ok (.if_icmp .ne 25, 3) := by decide +kernel
theorem dX1_execute_50 : decode cX1_execute 50 = .ok (.aload_n 0, 1) := by decide +kernel
theorem dX1_execute_51 : decode cX1_execute 51 = .ok (.getfield 22, 3) := by decide +kernel
theorem dX1_execute_54 : decode cX1_execute 54 = .ok (.iload_n 2, 1) := by decide +kernel
theorem dX1_execute_55 : decode cX1_execute 55 = .ok (.aload_n 0, 1) := by decide +kernel
theorem dX1_execute_56 : decode cX1_execute 56 = .ok (.getfield 22, 3) := by decide +kernel
theorem dX1_execute_59 : decode cX1_execute 59 = .ok (.iload_n 3, 1) := by decide +kernel
theorem dX1_execute_60 : decode cX1_execute 60 = .ok (.iaload, 1) := by decide +kernel
theorem dX1_execute_61 : decode cX1_execute 61 = .ok (.aload_n 0, 1) := by decide +kernel
theorem dX1_execute_62 : decode cX1_execute 62 = .ok (.getfield 22, 3) := by decide +kernel
theorem dX1_execute_65 : decode cX1_execute 65 = .ok (.iload 4, 2) := by decide +kernel
theorem dX1_execute_67 : decode cX1_execute 67 = .ok (.iaload, 1) := by decide +kernel
theorem dX1_execute_68 : decode cX1_execute 68 = .ok (.iadd, 1) := by decide +kernel
theorem dX1_execute_69 : decode cX1_execute 69 = .ok (.iastore, 1) := by decide +kernel
theorem dX1_execute_70 : decode cX1_execute 70 = .ok (.iconst 0, 1) := by decide +kernel
theorem dX1_execute_71 : decode cX1_execute 71 = .ok (.ireturn, 1) := by decide +kernel
theorem dX1_execute_72 : decode cX1_execute 72 = .ok (.aload_n 0, 1) := by decide +kernel
theorem dX1_execute_73 : decode cX1_execute 73 = .ok (.getfield 7, 3) := by decide +kernel
theorem dX1_execute_76 : decode cX1_execute 76 = .ok (.iload_n 1, 1) := by decide +kernel
theorem dX1_execute_77 : decode cX1_execute 77 = .ok (.iaload, 1) := by decide +kernel
theorem dX1_execute_78 : decode cX1_execute 78 = .ok (.iconst 2, 1) := by decide +kernel
theorem dX1_execute_79 : decode cX1_execute 79 = .ok (.if_icmp .ne 25, 3) := by decide +kernel
theorem dX1_execute_82 : decode cX1_execute 82 = .ok (.aload_n 0, 1) := by decide +kernel
theorem dX1_execute_83 : decode cX1_execute 83 = .ok (.getfield 22, 3) := by decide +kernel
theorem dX1_execute_86 : decode cX1_execute 86 = .ok (.iload_n 2, 1) := by decide +kernel
theorem dX1_execute_87 : decode cX1_execute 87 = .ok (.aload_n 0, 1) := by decide +kernel
theorem dX1_execute_88 : decode cX1_execute 88 = .ok (.getfield 22, 3) := by decide +kernel
theorem dX1_execute_91 : decode cX1_execute 91 = .ok (.iload_n 3, 1) := by decide +kernel
theorem dX1_execute_92 : decode cX1_execute 92 = .ok (.iaload, 1) := by decide +kernel
theorem dX1_execute_93 : decode cX1_execute 93 = .ok (.aload_n 0, 1) := by decide +kernel
theorem dX1_execute_94 : decode cX1_execute 94 = .ok (.getfield 22, 3) := by decide +kernel
theorem dX1_execute_97 : decode cX1_execute 97 = .ok (.iload 4, 2) := by decide +kernel
theorem dX1_execute_99 : decode cX1_execute 99 = .ok (.iaload, 1) := by decide +kernel
theorem dX1_execute_100 : decode cX1_execute 100 = .ok (.isub, 1) := by decide +kernel
theorem dX1_execute_101 : decode cX1_execute 101 = .ok (.iastore, 1) := by decide +kernel
theorem dX1_execute_102 : decode cX1_execute 102 = .ok (.iconst 0, 1) := by decide +kernel
theorem dX1_execute_103 : decode cX1_execute 103 = .ok (.ireturn, 1) := by decide +kernel
theorem dX1_execute_104 : decode cX1_execute 104 = .ok (.aload_n 0, 1) := by decide +kernel
theorem dX1_execute_105 : decode cX1_execute 105 = .ok (.getfield 7, 3) := by decide +kernel
theorem dX1_execute_108 : decode cX1_execute 108 = .ok (.iload_n 1, 1) := by decide +kernel
theorem dX1_execute_109 : decode cX1_execute 109 = .ok (.iaload, 1) := by decide +kernel
theorem dX1_execute_110 : decode cX1_execute 110 = .ok (.iconst 5, 1) := by decide +kernel
theorem dX1_execute_111 : decode cX1_execute 111 = .ok (.if_icmp .ne 18, 3) := by decide +kernel
theorem dX1_execute_114 : decode cX1_execute 114 = .ok (.aload_n 0, 1) := by decide +kernel
theorem dX1_execute_115 : decode cX1_execute 115 = .ok (.getfield 22, 3) := by decide +kernel
theorem dX1_execute_118 : decode cX1_execute 118 = .ok (.iload_n 2, 1) := by decide +kernel
theorem dX1_execute_119 : decode cX1_execute 119 = .ok (.iaload, 1) := by decide +kernel
theorem dX1_execute_120 : decode cX1_execute 120 = .ok (.ifCond .eq 7, 3) := by decide +kernel
theorem dX1_execute_123 : decode cX1_execute 123 = .ok (.iconst 1, 1) := by decide +kernel
theorem dX1_execute_124 : decode cX1_execute 124 = .ok (.goto 4, 3) := by decide +kernel
theorem dX1_execute_127 : decode cX1_execute 127 = .ok (.iconst 0, 1) := by decide +kernel
theorem dX1_execute_128 : decode cX1_execute 128 = .ok (.ireturn, 1) := by decide +kernel
theorem dX1_execute_129 : decode cX1_execute 129 = .ok (.aload_n 0, 1) := by decide +kernel
theorem dX1_execute_130 : decode cX1_execute 130 = .ok (.getfield 7, 3) := by decide +kernel
theorem dX1_execute_133 : decode cX1_execute 133 = .ok (.iload_n 1, 1) := by decide +kernel
theorem dX1_execute_134 : decode cX1_execute 134 = .ok (.iaload, 1) := by decide +kernel
theorem dX1_execute_135 : decode cX1_execute 135 = .ok (.iconst 3, 1) := by decide +kernel
theorem dX1_execute_136 : decode cX1_execute 136 = .ok (.if_icmp .ne 15, 3) := by decide +kernel
theorem dX1_execute_139 : decode cX1_execute 139 = .ok (.aload_n 0, 1) := by decide +kernel
theorem dX1_execute_140 : decode cX1_execute 140 = .ok (.getfield 22, 3) := by decide +kernel
theorem dX1_execute_143 : decode cX1_execute 143 = .ok (.iload_n 3, 1) := by decide +kernel
theorem dX1_execute_144 : decode cX1_execute 144 = .ok (.iaload, 1) := by decide +kernel
theorem dX1_execute_145 : decode cX1_execute 145 = .ok (.iload 4, 2) := by decide +kernel
theorem dX1_execute_147 : decode cX1_execute 147 = .ok (.iadd, 1) := by decide +kernel
theorem dX1_execute_148 : decode cX1_execute 148 = .ok (.goto 11, 3) := by decide +kernel
theorem dX1_execute_151 : decode cX1_execute 151 = .ok (.aload_n 0, 1) := by decide +kernel
theorem dX1_execute_152 : decode cX1_execute 152 = .ok (.getfield 22, 3) := by decide +kernel
theorem dX1_execute_155 : decode cX1_execute 155 = .ok (.iload_n 2, 1) := by decide +kernel
theorem dX1_execute_156 : decode cX1_execute 156 = .ok (.iaload, 1) := by decide +kernel
theorem dX1_execute_157 : decode cX1_execute 157 = .ok (.iload_n 3, 1) := by decide +kernel
theorem dX1_execute_158 : decode cX1_execute 158 = .ok (.iadd, 1) := by decide +kernel
theorem dX1_execute_159 : decode cX1_execute 159 = .ok (.istore 5, 2) := by decide +kernel
theorem dX1_execute_161 : decode cX1_execute 161 = .ok (.aload_n 0, 1) := by decide +kernel
theorem dX1_execute_162 : decode cX1_execute 162 = .ok (.iload 5, 2) := by decide +kernel
theorem dX1_execute_164 : decode cX1_execute 164 = .ok (.invokevirtual 47, 3) := by decide +kernel
theorem dX1_execute_167 : decode cX1_execute 167 = .ok (.ifCond .eq 13, 3) := by decide +kernel
theorem dX1_execute_170 : decode cX1_execute 170 = .ok (.aload_n 0, 1) := by decide +kernel
theorem dX1_execute_171 : decode cX1_execute 171 = .ok (.getfield 28, 3) := by decide +kernel
theorem dX1_execute_174 : decode cX1_execute 174 = .ok (.iload 5, 2) := by decide +kernel
theorem dX1_execute_176 : decode cX1_execute 176 = .ok (.baload, 1) := by decide +kernel
theorem dX1_execute_177 : decode cX1_execute 177 = .ok (.ifCond .eq 5, 3) := by decide +kernel
theorem dX1_execute_180 : decode cX1_execute 180 = .ok (.iconst 2, 1) := by decide +kernel
theorem dX1_execute_181 : decode cX1_execute 181 = .ok (.ireturn, 1) := by decide +kernel
theorem dX1_execute_182 : decode cX1_execute 182 = .ok (.aload_n 0, 1) := by decide +kernel
theorem dX1_execute_183 : decode cX1_execute 183 = .ok (.getfield 7, 3) := by decide +kernel
theorem dX1_execute_186 : decode cX1_execute 186 = .ok (.iload_n 1, 1) := by decide +kernel
theorem dX1_execute_187 : decode cX1_execute 187 = .ok (.iaload, 1) := by decide +kernel
theorem dX1_execute_188 : decode cX1_execute 188 = .ok (.iconst 3, 1) := by decide +kernel
theorem dX1_execute_189 : decode cX1_execute 189 = .ok (.if_icmp .ne 19, 3) := by decide +kernel
theorem dX1_execute_192 : decode cX1_execute 192 = .ok (.aload_n 0, 1) := by decide +kernel
theorem dX1_execute_193 : decode cX1_execute 193 = .ok (.getfield 22, 3) := by decide +kernel
theorem dX1_execute_196 : decode cX1_execute 196 = .ok (.iload_n 2, 1) := by decide +kernel
theorem dX1_execute_197 : decode cX1_execute 197 = .ok (.aload_n 0, 1) := by decide +kernel
theorem dX1_execute_198 : decode cX1_execute 198 = .ok (.getfield 25, 3) := by decide +kernel
theorem dX1_execute_201 : decode cX1_execute 201 = .ok (.iload 5, 2) := by decide +kernel
theorem dX1_execute_203 : decode cX1_execute 203 = .ok (.iaload, 1) := by decide +kernel
theorem dX1_execute_204 : decode cX1_execute 204 = .ok (.iastore, 1) := by decide +kernel
theorem dX1_execute_205 : decode cX1_execute 205 = .ok (.goto 17, 3) := by decide +kernel
theorem dX1_execute_208 : decode cX1_execute 208 = .ok (.aload_n 0, 1) := by decide +kernel
theorem dX1_execute_209 : decode cX1_execute 209 = .ok (.getfield 25, 3) := by decide +kernel
theorem dX1_execute_212 : decode cX1_execute 212 = .ok (.iload 5, 2) := by decide +kernel
theorem dX1_execute_214 : decode cX1_execute 214 = .ok (.aload_n 0, 1) := by decide +kernel
theorem dX1_execute_215 : decode cX1_execute 215 = .ok (.getfield 22, 3) := by decide +kernel
theorem dX1_execute_218 : decode cX1_execute 218 = .ok (.iload 4, 2) := by decide +kernel
theorem dX1_execute_220 : decode cX1_execute 220 = .ok (.iaload, 1) := by decide +kernel
theorem dX1_execute_221 : decode cX1_execute 221 = .ok (.iastore, 1) := by decide +kernel
theorem dX1_execute_222 : decode cX1_execute 222 = .ok (.iconst 0, 1) := by decide +kernel
theorem dX1_execute_223 : decode cX1_execute 223 = .ok (.ireturn, 1) := by decide +kernel
end
section
set_option maxRecDepth 100000
abbrev cX1_last : ByteArray := prog_3_method_20_code
def yX1_last : MethodName := ⟨RX1, "last", "()I"⟩
theorem dX1_last_0 : decode cX1_last 0 = .ok (.aload_n 0, 1) := by decide +kernel
theorem dX1_last_1 : decode cX1_last 1 = .ok (.getfield 32, 3) := by decide +kernel
theorem dX1_last_4 : decode cX1_last 4 = .ok (.ireturn, 1) := by decide +kernel
abbrev cX1_repeat : ByteArray := prog_3_method_21_code
def yX1_repeat : MethodName := ⟨RX1, "repeat", "(I)I"⟩
theorem dX1_repeat_0 : decode cX1_repeat 0 = .ok (.iload_n 1, 1) := by decide +kernel
theorem dX1_repeat_1 : decode cX1_repeat 1 = .ok (.ifCond .ge 7, 3) := by decide +kernel
theorem dX1_repeat_4 : decode cX1_repeat 4 = .ok (.iconst 0, 1) := by decide +kernel
theorem dX1_repeat_5 : decode cX1_repeat 5 = .ok (.goto 15, 3) := by decide +kernel
theorem dX1_repeat_8 : decode cX1_repeat 8 = .ok (.iload_n 1, 1) := by decide +kernel
theorem dX1_repeat_9 : decode cX1_repeat 9 = .ok (.bipush 8, 2) := by decide +kernel
theorem dX1_repeat_11 : decode cX1_repeat 11 = .ok (.if_icmp .le 8, 3) := by decide +kernel
theorem dX1_repeat_14 : decode cX1_repeat 14 = .ok (.bipush 8, 2) := by decide +kernel
theorem dX1_repeat_16 : decode cX1_repeat 16 = .ok (.goto 4, 3) := by decide +kernel
theorem dX1_repeat_19 : decode cX1_repeat 19 = .ok (.iload_n 1, 1) := by decide +kernel
theorem dX1_repeat_20 : decode cX1_repeat 20 = .ok (.istore_n 2, 1) := by decide +kernel
theorem dX1_repeat_21 : decode cX1_repeat 21 = .ok (.iconst 0, 1) := by decide +kernel
theorem dX1_repeat_22 : decode cX1_repeat 22 = .ok (.istore_n 3, 1) := by decide +kernel
theorem dX1_repeat_23 : decode cX1_repeat 23 = .ok (.iconst 0, 1) := by decide +kernel
theorem dX1_repeat_24 : decode cX1_repeat 24 = .ok (.istore 4, 2) := by decide +kernel
theorem dX1_repeat_26 : decode cX1_repeat 26 = .ok (.iload_n 3, 1) := by decide +kernel
theorem dX1_repeat_27 : decode cX1_repeat 27 = .ok (.iload_n 2, 1) := by decide +kernel
theorem dX1_repeat_28 : decode cX1_repeat 28 = .ok (.if_icmp .ge 20, 3) := by decide +kernel
theorem dX1_repeat_31 : decode cX1_repeat 31 = .ok (.iload 4, 2) := by decide +kernel
theorem dX1_repeat_33 : decode cX1_repeat 33 = .ok (.ifCond .ne 15, 3) := by decide +kernel
theorem dX1_repeat_36 : decode cX1_repeat 36 = .ok (.aload_n 0, 1) := by decide +kernel
theorem dX1_repeat_37 : decode cX1_repeat 37 = .ok (.invokevirtual 54, 3) := by decide +kernel
theorem dX1_repeat_40 : decode cX1_repeat 40 = .ok (.istore 4, 2) := by decide +kernel
theorem dX1_repeat_42 : decode cX1_repeat 42 = .ok (.iinc 3 1, 3) := by decide +kernel
theorem dX1_repeat_45 : decode cX1_repeat 45 = .ok (.goto (-19), 3) := by decide +kernel
theorem dX1_repeat_48 : decode cX1_repeat 48 = .ok (.iload_n 3, 1) := by decide +kernel
theorem dX1_repeat_49 : decode cX1_repeat 49 = .ok (.ireturn, 1) := by decide +kernel
theorem q29 : (Jvm.Cond.initialized "SpecLoadSchedModel") ∈ lw_all := lw_g (lw_at lw_m1 2 rfl) rfl
theorem q268 : (Jvm.Cond.instantiable "SpecLoadSchedModel" (9 : Nat)) ∈ lw_all := lw_g (lw_at lw_m2 1 rfl) rfl
theorem q270 : (Jvm.Cond.instanceMethod ({ cls := "SpecLoadSchedModel", name := "<init>", desc := "()V" } : Jvm.MethodName)) ∈ lw_all := lw_g (lw_at lw_m2 3 rfl) rfl
theorem q271 : (Jvm.Cond.code ({ cls := "SpecLoadSchedModel", name := "<init>", desc := "()V" } : Jvm.MethodName) prog_3_method_1_code (1 : Nat) (Option.none : Option Jvm.ClassFile.FieldType)) ∈ lw_all := lw_g (lw_at lw_m2 4 rfl) rfl
theorem q272 : (Jvm.Cond.methodLink "SpecLoadSchedModel" (1 : Nat) ({ cls := "java/lang/Object", name := "<init>", desc := "()V" } : Jvm.MethodName)) ∈ lw_all := lw_g (lw_at lw_m2 5 rfl) rfl
theorem q273 : (Jvm.Cond.fieldLink "SpecLoadSchedModel" (7 : Nat) "SpecLoadSchedModel" "kind" "[I") ∈ lw_all := lw_g (lw_at lw_m2 6 rfl) rfl
theorem q274 : (Jvm.Cond.fieldLink "SpecLoadSchedModel" (13 : Nat) "SpecLoadSchedModel" "first" "[I") ∈ lw_all := lw_g (lw_at lw_m2 7 rfl) rfl
theorem q275 : (Jvm.Cond.fieldLink "SpecLoadSchedModel" (16 : Nat) "SpecLoadSchedModel" "second" "[I") ∈ lw_all := lw_g (lw_at lw_m2 8 rfl) rfl
theorem q276 : (Jvm.Cond.fieldLink "SpecLoadSchedModel" (19 : Nat) "SpecLoadSchedModel" "third" "[I") ∈ lw_all := lw_g (lw_at lw_m2 9 rfl) rfl
theorem q277 : (Jvm.Cond.fieldLink "SpecLoadSchedModel" (36 : Nat) "SpecLoadSchedModel" "size" "I") ∈ lw_all := lw_g (lw_at lw_m2 10 rfl) rfl
theorem q278 : (Jvm.Cond.fieldLink "SpecLoadSchedModel" (22 : Nat) "SpecLoadSchedModel" "registers" "[I") ∈ lw_all := lw_g (lw_at lw_m2 11 rfl) rfl
theorem q279 : (Jvm.Cond.fieldLink "SpecLoadSchedModel" (25 : Nat) "SpecLoadSchedModel" "words" "[I") ∈ lw_all := lw_g (lw_at lw_m2 12 rfl) rfl
theorem q280 : (Jvm.Cond.fieldLink "SpecLoadSchedModel" (28 : Nat) "SpecLoadSchedModel" "barred" "[Z") ∈ lw_all := lw_g (lw_at lw_m2 13 rfl) rfl
theorem q281 : (Jvm.Cond.fieldLink "SpecLoadSchedModel" (32 : Nat) "SpecLoadSchedModel" "last" "I") ∈ lw_all := lw_g (lw_at lw_m2 14 rfl) rfl
theorem q282 : (Jvm.Cond.laysFinal "SpecLoadSchedModel" "SpecLoadSchedModel" "kind" "[I") ∈ lw_all := lw_g (lw_at lw_m2 15 rfl) rfl
theorem q283 : (Jvm.Cond.soleField "SpecLoadSchedModel" "kind") ∈ lw_all := lw_g (lw_at lw_m2 16 rfl) rfl
theorem q284 : (Jvm.Cond.laysFinal "SpecLoadSchedModel" "SpecLoadSchedModel" "first" "[I") ∈ lw_all := lw_g (lw_at lw_m2 17 rfl) rfl
theorem q285 : (Jvm.Cond.soleField "SpecLoadSchedModel" "first") ∈ lw_all := lw_g (lw_at lw_m2 18 rfl) rfl
theorem q286 : (Jvm.Cond.laysFinal "SpecLoadSchedModel" "SpecLoadSchedModel" "second" "[I") ∈ lw_all := lw_g (lw_at lw_m2 19 rfl) rfl
theorem q287 : (Jvm.Cond.soleField "SpecLoadSchedModel" "second") ∈ lw_all := lw_g (lw_at lw_m2 20 rfl) rfl
theorem q288 : (Jvm.Cond.laysFinal "SpecLoadSchedModel" "SpecLoadSchedModel" "third" "[I") ∈ lw_all := lw_g (lw_at lw_m2 21 rfl) rfl
theorem q289 : (Jvm.Cond.soleField "SpecLoadSchedModel" "third") ∈ lw_all := lw_g (lw_at lw_m2 22 rfl) rfl
theorem q290 : (Jvm.Cond.lays "SpecLoadSchedModel" "SpecLoadSchedModel" "size" "I") ∈ lw_all := lw_g (lw_at lw_m2 23 rfl) rfl
theorem q291 : (Jvm.Cond.soleField "SpecLoadSchedModel" "size") ∈ lw_all := lw_g (lw_at lw_m2 24 rfl) rfl
theorem q292 : (Jvm.Cond.laysFinal "SpecLoadSchedModel" "SpecLoadSchedModel" "registers" "[I") ∈ lw_all := lw_g (lw_at lw_m2 25 rfl) rfl
theorem q293 : (Jvm.Cond.soleField "SpecLoadSchedModel" "registers") ∈ lw_all := lw_g (lw_at lw_m2 26 rfl) rfl
theorem q294 : (Jvm.Cond.laysFinal "SpecLoadSchedModel" "SpecLoadSchedModel" "words" "[I") ∈ lw_all := lw_g (lw_at lw_m2 27 rfl) rfl
theorem q295 : (Jvm.Cond.soleField "SpecLoadSchedModel" "words") ∈ lw_all := lw_g (lw_at lw_m2 28 rfl) rfl
theorem q296 : (Jvm.Cond.laysFinal "SpecLoadSchedModel" "SpecLoadSchedModel" "barred" "[Z") ∈ lw_all := lw_g (lw_at lw_m2 29 rfl) rfl
theorem q297 : (Jvm.Cond.soleField "SpecLoadSchedModel" "barred") ∈ lw_all := lw_g (lw_at lw_m2 30 rfl) rfl
theorem q298 : (Jvm.Cond.lays "SpecLoadSchedModel" "SpecLoadSchedModel" "last" "I") ∈ lw_all := lw_g (lw_at lw_m2 31 rfl) rfl
theorem q299 : (Jvm.Cond.soleField "SpecLoadSchedModel" "last") ∈ lw_all := lw_g (lw_at lw_m2 32 rfl) rfl
theorem q300 : (Jvm.Cond.superclass "SpecLoadSchedModel" "java/lang/Object") ∈ lw_all := lw_g (lw_at lw_m2 33 rfl) rfl
theorem q302 : (Jvm.Cond.instanceMethod ({ cls := "SpecLoadSchedModel", name := "constant", desc := "(II)I" } : Jvm.MethodName)) ∈ lw_all := lw_g (lw_at lw_m2 35 rfl) rfl
theorem q303 : (Jvm.Cond.selects "SpecLoadSchedModel" ({ cls := "SpecLoadSchedModel", name := "constant", desc := "(II)I" } : Jvm.MethodName) ({ cls := "SpecLoadSchedModel", name := "constant", desc := "(II)I" } : Jvm.MethodName)) ∈ lw_all := lw_g (lw_at lw_m2 36 rfl) rfl
theorem q304 : (Jvm.Cond.code ({ cls := "SpecLoadSchedModel", name := "constant", desc := "(II)I" } : Jvm.MethodName) prog_3_method_5_code (3 : Nat) (Option.some Jvm.ClassFile.FieldType.int)) ∈ lw_all := lw_g (lw_at lw_m2 37 rfl) rfl
theorem q305 : (Jvm.Cond.methodLink "SpecLoadSchedModel" (39 : Nat) ({ cls := "SpecLoadSchedModel", name := "isRegister", desc := "(I)Z" } : Jvm.MethodName)) ∈ lw_all := lw_g (lw_at lw_m2 38 rfl) rfl
theorem q306 : (Jvm.Cond.privateMethod ({ cls := "SpecLoadSchedModel", name := "isRegister", desc := "(I)Z" } : Jvm.MethodName)) ∈ lw_tbl := lw_at lw_m2 39 rfl
theorem q307 : (Jvm.Cond.instanceMethod ({ cls := "SpecLoadSchedModel", name := "isRegister", desc := "(I)Z" } : Jvm.MethodName)) ∈ lw_all := lw_g (lw_at lw_m2 40 rfl) rfl
theorem q308 : (Jvm.Cond.code ({ cls := "SpecLoadSchedModel", name := "isRegister", desc := "(I)Z" } : Jvm.MethodName) prog_3_method_2_code (2 : Nat) (Option.some Jvm.ClassFile.FieldType.boolean)) ∈ lw_all := lw_g (lw_at lw_m2 41 rfl) rfl
theorem q309 : (Jvm.Cond.methodLink "SpecLoadSchedModel" (43 : Nat) ({ cls := "SpecLoadSchedModel", name := "append", desc := "(IIII)I" } : Jvm.MethodName)) ∈ lw_all := lw_g (lw_at lw_m2 42 rfl) rfl
theorem q310 : (Jvm.Cond.privateMethod ({ cls := "SpecLoadSchedModel", name := "append", desc := "(IIII)I" } : Jvm.MethodName)) ∈ lw_tbl := lw_at lw_m2 43 rfl
theorem q311 : (Jvm.Cond.instanceMethod ({ cls := "SpecLoadSchedModel", name := "append", desc := "(IIII)I" } : Jvm.MethodName)) ∈ lw_all := lw_g (lw_at lw_m2 44 rfl) rfl
theorem q312 : (Jvm.Cond.code ({ cls := "SpecLoadSchedModel", name := "append", desc := "(IIII)I" } : Jvm.MethodName) prog_3_method_4_code (5 : Nat) (Option.some Jvm.ClassFile.FieldType.int)) ∈ lw_all := lw_g (lw_at lw_m2 45 rfl) rfl
theorem q314 : (Jvm.Cond.instanceMethod ({ cls := "SpecLoadSchedModel", name := "add", desc := "(III)I" } : Jvm.MethodName)) ∈ lw_all := lw_g (lw_at lw_m2 47 rfl) rfl
theorem q315 : (Jvm.Cond.selects "SpecLoadSchedModel" ({ cls := "SpecLoadSchedModel", name := "add", desc := "(III)I" } : Jvm.MethodName) ({ cls := "SpecLoadSchedModel", name := "add", desc := "(III)I" } : Jvm.MethodName)) ∈ lw_all := lw_g (lw_at lw_m2 48 rfl) rfl
theorem q316 : (Jvm.Cond.code ({ cls := "SpecLoadSchedModel", name := "add", desc := "(III)I" } : Jvm.MethodName) prog_3_method_6_code (4 : Nat) (Option.some Jvm.ClassFile.FieldType.int)) ∈ lw_all := lw_g (lw_at lw_m2 49 rfl) rfl
theorem q318 : (Jvm.Cond.instanceMethod ({ cls := "SpecLoadSchedModel", name := "subtract", desc := "(III)I" } : Jvm.MethodName)) ∈ lw_all := lw_g (lw_at lw_m2 51 rfl) rfl
theorem q319 : (Jvm.Cond.selects "SpecLoadSchedModel" ({ cls := "SpecLoadSchedModel", name := "subtract", desc := "(III)I" } : Jvm.MethodName) ({ cls := "SpecLoadSchedModel", name := "subtract", desc := "(III)I" } : Jvm.MethodName)) ∈ lw_all := lw_g (lw_at lw_m2 52 rfl) rfl
theorem q320 : (Jvm.Cond.code ({ cls := "SpecLoadSchedModel", name := "subtract", desc := "(III)I" } : Jvm.MethodName) prog_3_method_7_code (4 : Nat) (Option.some Jvm.ClassFile.FieldType.int)) ∈ lw_all := lw_g (lw_at lw_m2 53 rfl) rfl
theorem q322 : (Jvm.Cond.instanceMethod ({ cls := "SpecLoadSchedModel", name := "load", desc := "(III)I" } : Jvm.MethodName)) ∈ lw_all := lw_g (lw_at lw_m2 55 rfl) rfl
theorem q323 : (Jvm.Cond.selects "SpecLoadSchedModel" ({ cls := "SpecLoadSchedModel", name := "load", desc := "(III)I" } : Jvm.MethodName) ({ cls := "SpecLoadSchedModel", name := "load", desc := "(III)I" } : Jvm.MethodName)) ∈ lw_all := lw_g (lw_at lw_m2 56 rfl) rfl
theorem q324 : (Jvm.Cond.code ({ cls := "SpecLoadSchedModel", name := "load", desc := "(III)I" } : Jvm.MethodName) prog_3_method_8_code (4 : Nat) (Option.some Jvm.ClassFile.FieldType.int)) ∈ lw_all := lw_g (lw_at lw_m2 57 rfl) rfl
theorem q326 : (Jvm.Cond.instanceMethod ({ cls := "SpecLoadSchedModel", name := "store", desc := "(III)I" } : Jvm.MethodName)) ∈ lw_all := lw_g (lw_at lw_m2 59 rfl) rfl
theorem q327 : (Jvm.Cond.selects "SpecLoadSchedModel" ({ cls := "SpecLoadSchedModel", name := "store", desc := "(III)I" } : Jvm.MethodName) ({ cls := "SpecLoadSchedModel", name := "store", desc := "(III)I" } : Jvm.MethodName)) ∈ lw_all := lw_g (lw_at lw_m2 60 rfl) rfl
theorem q328 : (Jvm.Cond.code ({ cls := "SpecLoadSchedModel", name := "store", desc := "(III)I" } : Jvm.MethodName) prog_3_method_9_code (4 : Nat) (Option.some Jvm.ClassFile.FieldType.int)) ∈ lw_all := lw_g (lw_at lw_m2 61 rfl) rfl
theorem q330 : (Jvm.Cond.instanceMethod ({ cls := "SpecLoadSchedModel", name := "leave", desc := "(I)I" } : Jvm.MethodName)) ∈ lw_all := lw_g (lw_at lw_m2 63 rfl) rfl
theorem q331 : (Jvm.Cond.selects "SpecLoadSchedModel" ({ cls := "SpecLoadSchedModel", name := "leave", desc := "(I)I" } : Jvm.MethodName) ({ cls := "SpecLoadSchedModel", name := "leave", desc := "(I)I" } : Jvm.MethodName)) ∈ lw_all := lw_g (lw_at lw_m2 64 rfl) rfl
theorem q332 : (Jvm.Cond.code ({ cls := "SpecLoadSchedModel", name := "leave", desc := "(I)I" } : Jvm.MethodName) prog_3_method_10_code (2 : Nat) (Option.some Jvm.ClassFile.FieldType.int)) ∈ lw_all := lw_g (lw_at lw_m2 65 rfl) rfl
theorem q334 : (Jvm.Cond.instanceMethod ({ cls := "SpecLoadSchedModel", name := "size", desc := "()I" } : Jvm.MethodName)) ∈ lw_all := lw_g (lw_at lw_m2 67 rfl) rfl
theorem q335 : (Jvm.Cond.selects "SpecLoadSchedModel" ({ cls := "SpecLoadSchedModel", name := "size", desc := "()I" } : Jvm.MethodName) ({ cls := "SpecLoadSchedModel", name := "size", desc := "()I" } : Jvm.MethodName)) ∈ lw_all := lw_g (lw_at lw_m2 68 rfl) rfl
theorem q336 : (Jvm.Cond.code ({ cls := "SpecLoadSchedModel", name := "size", desc := "()I" } : Jvm.MethodName) prog_3_method_11_code (1 : Nat) (Option.some Jvm.ClassFile.FieldType.int)) ∈ lw_all := lw_g (lw_at lw_m2 69 rfl) rfl
theorem q338 : (Jvm.Cond.instanceMethod ({ cls := "SpecLoadSchedModel", name := "clear", desc := "()V" } : Jvm.MethodName)) ∈ lw_all := lw_g (lw_at lw_m2 71 rfl) rfl
theorem q339 : (Jvm.Cond.selects "SpecLoadSchedModel" ({ cls := "SpecLoadSchedModel", name := "clear", desc := "()V" } : Jvm.MethodName) ({ cls := "SpecLoadSchedModel", name := "clear", desc := "()V" } : Jvm.MethodName)) ∈ lw_all := lw_g (lw_at lw_m2 72 rfl) rfl
theorem q340 : (Jvm.Cond.code ({ cls := "SpecLoadSchedModel", name := "clear", desc := "()V" } : Jvm.MethodName) prog_3_method_12_code (1 : Nat) (Option.none : Option Jvm.ClassFile.FieldType)) ∈ lw_all := lw_g (lw_at lw_m2 73 rfl) rfl
theorem q342 : (Jvm.Cond.instanceMethod ({ cls := "SpecLoadSchedModel", name := "setRegister", desc := "(II)I" } : Jvm.MethodName)) ∈ lw_all := lw_g (lw_at lw_m2 75 rfl) rfl
theorem q343 : (Jvm.Cond.selects "SpecLoadSchedModel" ({ cls := "SpecLoadSchedModel", name := "setRegister", desc := "(II)I" } : Jvm.MethodName) ({ cls := "SpecLoadSchedModel", name := "setRegister", desc := "(II)I" } : Jvm.MethodName)) ∈ lw_all := lw_g (lw_at lw_m2 76 rfl) rfl
theorem q344 : (Jvm.Cond.code ({ cls := "SpecLoadSchedModel", name := "setRegister", desc := "(II)I" } : Jvm.MethodName) prog_3_method_13_code (3 : Nat) (Option.some Jvm.ClassFile.FieldType.int)) ∈ lw_all := lw_g (lw_at lw_m2 77 rfl) rfl
theorem q346 : (Jvm.Cond.instanceMethod ({ cls := "SpecLoadSchedModel", name := "register", desc := "(I)I" } : Jvm.MethodName)) ∈ lw_all := lw_g (lw_at lw_m2 79 rfl) rfl
theorem q347 : (Jvm.Cond.selects "SpecLoadSchedModel" ({ cls := "SpecLoadSchedModel", name := "register", desc := "(I)I" } : Jvm.MethodName) ({ cls := "SpecLoadSchedModel", name := "register", desc := "(I)I" } : Jvm.MethodName)) ∈ lw_all := lw_g (lw_at lw_m2 80 rfl) rfl
theorem q348 : (Jvm.Cond.code ({ cls := "SpecLoadSchedModel", name := "register", desc := "(I)I" } : Jvm.MethodName) prog_3_method_14_code (2 : Nat) (Option.some Jvm.ClassFile.FieldType.int)) ∈ lw_all := lw_g (lw_at lw_m2 81 rfl) rfl
theorem q350 : (Jvm.Cond.instanceMethod ({ cls := "SpecLoadSchedModel", name := "setWord", desc := "(II)I" } : Jvm.MethodName)) ∈ lw_all := lw_g (lw_at lw_m2 83 rfl) rfl
theorem q351 : (Jvm.Cond.selects "SpecLoadSchedModel" ({ cls := "SpecLoadSchedModel", name := "setWord", desc := "(II)I" } : Jvm.MethodName) ({ cls := "SpecLoadSchedModel", name := "setWord", desc := "(II)I" } : Jvm.MethodName)) ∈ lw_all := lw_g (lw_at lw_m2 84 rfl) rfl
theorem q352 : (Jvm.Cond.code ({ cls := "SpecLoadSchedModel", name := "setWord", desc := "(II)I" } : Jvm.MethodName) prog_3_method_15_code (3 : Nat) (Option.some Jvm.ClassFile.FieldType.int)) ∈ lw_all := lw_g (lw_at lw_m2 85 rfl) rfl
theorem q353 : (Jvm.Cond.methodLink "SpecLoadSchedModel" (47 : Nat) ({ cls := "SpecLoadSchedModel", name := "isAddress", desc := "(I)Z" } : Jvm.MethodName)) ∈ lw_all := lw_g (lw_at lw_m2 86 rfl) rfl
theorem q354 : (Jvm.Cond.privateMethod ({ cls := "SpecLoadSchedModel", name := "isAddress", desc := "(I)Z" } : Jvm.MethodName)) ∈ lw_tbl := lw_at lw_m2 87 rfl
theorem q355 : (Jvm.Cond.instanceMethod ({ cls := "SpecLoadSchedModel", name := "isAddress", desc := "(I)Z" } : Jvm.MethodName)) ∈ lw_all := lw_g (lw_at lw_m2 88 rfl) rfl
theorem q356 : (Jvm.Cond.code ({ cls := "SpecLoadSchedModel", name := "isAddress", desc := "(I)Z" } : Jvm.MethodName) prog_3_method_3_code (2 : Nat) (Option.some Jvm.ClassFile.FieldType.boolean)) ∈ lw_all := lw_g (lw_at lw_m2 89 rfl) rfl
theorem q358 : (Jvm.Cond.instanceMethod ({ cls := "SpecLoadSchedModel", name := "word", desc := "(I)I" } : Jvm.MethodName)) ∈ lw_all := lw_g (lw_at lw_m2 91 rfl) rfl
theorem q359 : (Jvm.Cond.selects "SpecLoadSchedModel" ({ cls := "SpecLoadSchedModel", name := "word", desc := "(I)I" } : Jvm.MethodName) ({ cls := "SpecLoadSchedModel", name := "word", desc := "(I)I" } : Jvm.MethodName)) ∈ lw_all := lw_g (lw_at lw_m2 92 rfl) rfl
theorem q360 : (Jvm.Cond.code ({ cls := "SpecLoadSchedModel", name := "word", desc := "(I)I" } : Jvm.MethodName) prog_3_method_16_code (2 : Nat) (Option.some Jvm.ClassFile.FieldType.int)) ∈ lw_all := lw_g (lw_at lw_m2 93 rfl) rfl
theorem q362 : (Jvm.Cond.instanceMethod ({ cls := "SpecLoadSchedModel", name := "bar", desc := "(II)I" } : Jvm.MethodName)) ∈ lw_all := lw_g (lw_at lw_m2 95 rfl) rfl
theorem q363 : (Jvm.Cond.selects "SpecLoadSchedModel" ({ cls := "SpecLoadSchedModel", name := "bar", desc := "(II)I" } : Jvm.MethodName) ({ cls := "SpecLoadSchedModel", name := "bar", desc := "(II)I" } : Jvm.MethodName)) ∈ lw_all := lw_g (lw_at lw_m2 96 rfl) rfl
theorem q364 : (Jvm.Cond.code ({ cls := "SpecLoadSchedModel", name := "bar", desc := "(II)I" } : Jvm.MethodName) prog_3_method_17_code (4 : Nat) (Option.some Jvm.ClassFile.FieldType.int)) ∈ lw_all := lw_g (lw_at lw_m2 97 rfl) rfl
theorem q366 : (Jvm.Cond.instanceMethod ({ cls := "SpecLoadSchedModel", name := "run", desc := "()I" } : Jvm.MethodName)) ∈ lw_all := lw_g (lw_at lw_m2 99 rfl) rfl
theorem q367 : (Jvm.Cond.selects "SpecLoadSchedModel" ({ cls := "SpecLoadSchedModel", name := "run", desc := "()I" } : Jvm.MethodName) ({ cls := "SpecLoadSchedModel", name := "run", desc := "()I" } : Jvm.MethodName)) ∈ lw_all := lw_g (lw_at lw_m2 100 rfl) rfl
theorem q368 : (Jvm.Cond.code ({ cls := "SpecLoadSchedModel", name := "run", desc := "()I" } : Jvm.MethodName) prog_3_method_19_code (3 : Nat) (Option.some Jvm.ClassFile.FieldType.int)) ∈ lw_all := lw_g (lw_at lw_m2 101 rfl) rfl
theorem q369 : (Jvm.Cond.methodLink "SpecLoadSchedModel" (50 : Nat) ({ cls := "SpecLoadSchedModel", name := "execute", desc := "(I)I" } : Jvm.MethodName)) ∈ lw_all := lw_g (lw_at lw_m2 102 rfl) rfl
theorem q370 : (Jvm.Cond.privateMethod ({ cls := "SpecLoadSchedModel", name := "execute", desc := "(I)I" } : Jvm.MethodName)) ∈ lw_tbl := lw_at lw_m2 103 rfl
theorem q371 : (Jvm.Cond.instanceMethod ({ cls := "SpecLoadSchedModel", name := "execute", desc := "(I)I" } : Jvm.MethodName)) ∈ lw_all := lw_g (lw_at lw_m2 104 rfl) rfl
theorem q372 : (Jvm.Cond.code ({ cls := "SpecLoadSchedModel", name := "execute", desc := "(I)I" } : Jvm.MethodName) prog_3_method_18_code (6 : Nat) (Option.some Jvm.ClassFile.FieldType.int)) ∈ lw_all := lw_g (lw_at lw_m2 105 rfl) rfl
theorem q374 : (Jvm.Cond.instanceMethod ({ cls := "SpecLoadSchedModel", name := "last", desc := "()I" } : Jvm.MethodName)) ∈ lw_all := lw_g (lw_at lw_m2 107 rfl) rfl
theorem q375 : (Jvm.Cond.selects "SpecLoadSchedModel" ({ cls := "SpecLoadSchedModel", name := "last", desc := "()I" } : Jvm.MethodName) ({ cls := "SpecLoadSchedModel", name := "last", desc := "()I" } : Jvm.MethodName)) ∈ lw_all := lw_g (lw_at lw_m2 108 rfl) rfl
theorem q376 : (Jvm.Cond.code ({ cls := "SpecLoadSchedModel", name := "last", desc := "()I" } : Jvm.MethodName) prog_3_method_20_code (1 : Nat) (Option.some Jvm.ClassFile.FieldType.int)) ∈ lw_all := lw_g (lw_at lw_m2 109 rfl) rfl
theorem q378 : (Jvm.Cond.instanceMethod ({ cls := "SpecLoadSchedModel", name := "repeat", desc := "(I)I" } : Jvm.MethodName)) ∈ lw_all := lw_g (lw_at lw_m2 111 rfl) rfl
theorem q379 : (Jvm.Cond.selects "SpecLoadSchedModel" ({ cls := "SpecLoadSchedModel", name := "repeat", desc := "(I)I" } : Jvm.MethodName) ({ cls := "SpecLoadSchedModel", name := "repeat", desc := "(I)I" } : Jvm.MethodName)) ∈ lw_all := lw_g (lw_at lw_m2 112 rfl) rfl
theorem q380 : (Jvm.Cond.code ({ cls := "SpecLoadSchedModel", name := "repeat", desc := "(I)I" } : Jvm.MethodName) prog_3_method_21_code (5 : Nat) (Option.some Jvm.ClassFile.FieldType.int)) ∈ lw_all := lw_g (lw_at lw_m2 113 rfl) rfl
theorem q381 : (Jvm.Cond.methodLink "SpecLoadSchedModel" (54 : Nat) ({ cls := "SpecLoadSchedModel", name := "run", desc := "()I" } : Jvm.MethodName)) ∈ lw_all := lw_g (lw_at lw_m2 114 rfl) rfl
theorem in_X1 : ∀ w ∈ wsX10, w ∈ lw_all := lw_in wsX10 [282, 284, 286, 288, 290, 292, 294, 296, 298] (by decide +kernel) (by decide +kernel)
end
section
/-! the law's own entry -/
set_option maxRecDepth 100000
abbrev cL_law : ByteArray := code
theorem dL_law_0 : decode cL_law 0 = .ok (.new 7, 3) := by decide +kernel
theorem dL_law_3 : decode cL_law 3 = .ok (.dup, 1) := by decide +kernel
theorem dL_law_4 : decode cL_law 4 = .ok (.invokespecial 9, 3) := by decide +kernel
theorem dL_law_7 : decode cL_law 7 = .ok (.astore_n 1, 1) := by decide +kernel
theorem dL_law_8 : decode cL_law 8 = .ok (.new 10, 3) := by decide +kernel
theorem dL_law_11 : decode cL_law 11 = .ok (.dup, 1) := by decide +kernel
theorem dL_law_12 : decode cL_law 12 = .ok (.invokespecial 12, 3) := by decide +kernel
theorem dL_law_15 : decode cL_law 15 = .ok (.astore_n 2, 1) := by decide +kernel
theorem dL_law_16 : decode cL_law 16 = .ok (.iconst 0, 1) := by decide +kernel
theorem dL_law_17 : decode cL_law 17 = .ok (.istore_n 3, 1) := by decide +kernel
theorem dL_law_18 : decode cL_law 18 = .ok (.iload_n 3, 1) := by decide +kernel
theorem dL_law_19 : decode cL_law 19 = .ok (.aload_n 0, 1) := by decide +kernel
theorem dL_law_20 : decode cL_law 20 = .ok (.arraylength, 1) := by decide +kernel
theorem dL_law_21 : decode cL_law 21 = .ok (.iconst 4, 1) := by decide +kernel
theorem dL_law_22 : decode cL_law 22 = .ok (.isub, 1) := by decide +kernel
theorem dL_law_23 : decode cL_law 23 = .ok (.if_icmp .gt 541, 3) := by decide +kernel
theorem dL_law_26 : decode cL_law 26 = .ok (.aload_n 0, 1) := by decide +kernel
theorem dL_law_27 : decode cL_law 27 = .ok (.iload_n 3, 1) := by decide +kernel
theorem dL_law_28 : decode cL_law 28 = .ok (.iaload, 1) := by decide +kernel
theorem dL_law_29 : decode cL_law 29 = .ok (.bipush 15, 2) := by decide +kernel
theorem dL_law_31 : decode cL_law 31 = .ok (.iand, 1) := by decide +kernel
theorem dL_law_32 : decode cL_law 32 = .ok (.tableswitch 526 0 15 #[80, 113, 156, 199, 242, 285, 308, 321, 332, 365, 388, 421, 444, 477, 490, 503], 80) := by decide +kernel
theorem dL_law_112 : decode cL_law 112 = .ok (.aload_n 1, 1) := by decide +kernel
theorem dL_law_113 : decode cL_law 113 = .ok (.aload_n 0, 1) := by decide +kernel
theorem dL_law_114 : decode cL_law 114 = .ok (.iload_n 3, 1) := by decide +kernel
theorem dL_law_115 : decode cL_law 115 = .ok (.iconst 1, 1) := by decide +kernel
theorem dL_law_116 : decode cL_law 116 = .ok (.iadd, 1) := by decide +kernel
theorem dL_law_117 : decode cL_law 117 = .ok (.iaload, 1) := by decide +kernel
theorem dL_law_118 : decode cL_law 118 = .ok (.aload_n 0, 1) := by decide +kernel
theorem dL_law_119 : decode cL_law 119 = .ok (.iload_n 3, 1) := by decide +kernel
theorem dL_law_120 : decode cL_law 120 = .ok (.iconst 2, 1) := by decide +kernel
theorem dL_law_121 : decode cL_law 121 = .ok (.iadd, 1) := by decide +kernel
theorem dL_law_122 : decode cL_law 122 = .ok (.iaload, 1) := by decide +kernel
theorem dL_law_123 : decode cL_law 123 = .ok (.invokevirtual 13, 3) := by decide +kernel
theorem dL_law_126 : decode cL_law 126 = .ok (.aload_n 2, 1) := by decide +kernel
theorem dL_law_127 : decode cL_law 127 = .ok (.aload_n 0, 1) := by decide +kernel
theorem dL_law_128 : decode cL_law 128 = .ok (.iload_n 3, 1) := by decide +kernel
theorem dL_law_129 : decode cL_law 129 = .ok (.iconst 1, 1) := by decide +kernel
theorem dL_law_130 : decode cL_law 130 = .ok (.iadd, 1) := by decide +kernel
theorem dL_law_131 : decode cL_law 131 = .ok (.iaload, 1) := by decide +kernel
theorem dL_law_132 : decode cL_law 132 = .ok (.aload_n 0, 1) := by decide +kernel
theorem dL_law_133 : decode cL_law 133 = .ok (.iload_n 3, 1) := by decide +kernel
theorem dL_law_134 : decode cL_law 134 = .ok (.iconst 2, 1) := by decide +kernel
theorem dL_law_135 : decode cL_law 135 = .ok (.iadd, 1) := by decide +kernel
theorem dL_law_136 : decode cL_law 136 = .ok (.iaload, 1) := by decide +kernel
theorem dL_law_137 : decode cL_law 137 = .ok (.invokevirtual 17, 3) := by decide +kernel
theorem dL_law_140 : decode cL_law 140 = .ok (.if_icmp .eq 418, 3) := by decide +kernel
theorem dL_law_143 : decode cL_law 143 = .ok (.iconst 0, 1) := by decide +kernel
theorem dL_law_144 : decode cL_law 144 = .ok (.ireturn, 1) := by decide +kernel
theorem dL_law_145 : decode cL_law 145 = .ok (.aload_n 1, 1) := by decide +kernel
theorem dL_law_146 : decode cL_law 146 = .ok (.aload_n 0, 1) := by decide +kernel
theorem dL_law_147 : decode cL_law 147 = .ok (.iload_n 3, 1) := by decide +kernel
theorem dL_law_148 : decode cL_law 148 = .ok (.iconst 1, 1) := by decide +kernel
theorem dL_law_149 : decode cL_law 149 = .ok (.iadd, 1) := by decide +kernel
theorem dL_law_150 : decode cL_law 150 = .ok (.iaload, 1) := by decide +kernel
theorem dL_law_151 : decode cL_law 151 = .ok (.aload_n 0, 1) := by decide +kernel
theorem dL_law_152 : decode cL_law 152 = .ok (.iload_n 3, 1) := by decide +kernel
theorem dL_law_153 : decode cL_law 153 = .ok (.iconst 2, 1) := by decide +kernel
theorem dL_law_154 : decode cL_law 154 = .ok (.iadd, 1) := by decide +kernel
theorem dL_law_155 : decode cL_law 155 = .ok (.iaload, 1) := by decide +kernel
theorem dL_law_156 : decode cL_law 156 = .ok (.aload_n 0, 1) := by decide +kernel
theorem dL_law_157 : decode cL_law 157 = .ok (.iload_n 3, 1) := by decide +kernel
theorem dL_law_158 : decode cL_law 158 = .ok (.iconst 3, 1) := by decide +kernel
theorem dL_law_159 : decode cL_law 159 = .ok (.iadd, 1) := by decide +kernel
theorem dL_law_160 : decode cL_law 160 = .ok (.iaload, 1) := by decide +kernel
theorem dL_law_161 : decode cL_law 161 = .ok (.invokevirtual 18, 3) := by decide +kernel
theorem dL_law_164 : decode cL_law 164 = .ok (.aload_n 2, 1) := by decide +kernel
theorem dL_law_165 : decode cL_law 165 = .ok (.aload_n 0, 1) := by decide +kernel
theorem dL_law_166 : decode cL_law 166 = .ok (.iload_n 3, 1) := by decide +kernel
theorem dL_law_167 : decode cL_law 167 = .ok (.iconst 1, 1) := by decide +kernel
theorem dL_law_168 : decode cL_law 168 = .ok (.iadd, 1) := by decide +kernel
theorem dL_law_169 : decode cL_law 169 = .ok (.iaload, 1) := by decide +kernel
theorem dL_law_170 : decode cL_law 170 = .ok (.aload_n 0, 1) := by decide +kernel
theorem dL_law_171 : decode cL_law 171 = .ok (.iload_n 3, 1) := by decide +kernel
theorem dL_law_172 : decode cL_law 172 = .ok (.iconst 2, 1) := by decide +kernel
theorem dL_law_173 : decode cL_law 173 = .ok (.iadd, 1) := by decide +kernel
theorem dL_law_174 : decode cL_law 174 = .ok (.iaload, 1) := by decide +kernel
theorem dL_law_175 : decode cL_law 175 = .ok (.aload_n 0, 1) := by decide +kernel
theorem dL_law_176 : decode cL_law 176 = .ok (.iload_n 3, 1) := by decide +kernel
theorem dL_law_177 : decode cL_law 177 = .ok (.iconst 3, 1) := by decide +kernel
theorem dL_law_178 : decode cL_law 178 = .ok (.iadd, 1) := by decide +kernel
theorem dL_law_179 : decode cL_law 179 = .ok (.iaload, 1) := by decide +kernel
theorem dL_law_180 : decode cL_law 180 = .ok (.invokevirtual 22, 3) := by decide +kernel
theorem dL_law_183 : decode cL_law 183 = .ok (.if_icmp .eq 375, 3) := by decide +kernel
theorem dL_law_186 : decode cL_law 186 = .ok (.iconst 0, 1) := by decide +kernel
theorem dL_law_187 : decode cL_law 187 = .ok (.ireturn, 1) := by decide +kernel
theorem dL_law_188 : decode cL_law 188 = .ok (.aload_n 1, 1) := by decide +kernel
theorem dL_law_189 : decode cL_law 189 = .ok (.aload_n 0, 1) := by decide +kernel
theorem dL_law_190 : decode cL_law 190 = .ok (.iload_n 3, 1) := by decide +kernel
theorem dL_law_191 : decode cL_law 191 = .ok (.iconst 1, 1) := by decide +kernel
theorem dL_law_192 : decode cL_law 192 = .ok (.iadd, 1) := by decide +kernel
theorem dL_law_193 : decode cL_law 193 = .ok (.iaload, 1) := by decide +kernel
theorem dL_law_194 : decode cL_law 194 = .ok (.aload_n 0, 1) := by decide +kernel
theorem dL_law_195 : decode cL_law 195 = .ok (.iload_n 3, 1) := by decide +kernel
theorem dL_law_196 : decode cL_law 196 = .ok (.iconst 2, 1) := by decide +kernel
theorem dL_law_197 : decode cL_law 197 = .ok (.iadd, 1) := by decide +kernel
theorem dL_law_198 : decode cL_law 198 = .ok (.iaload, 1) := by decide +kernel
theorem dL_law_199 : decode cL_law 199 = .ok (.aload_n 0, 1) := by decide +kernel
theorem dL_law_200 : decode cL_law 200 = .ok (.iload_n 3, 1) := by decide +kernel
theorem dL_law_201 : decode cL_law 201 = .ok (.iconst 3, 1) := by decide +kernel
theorem dL_law_202 : decode cL_law 202 = .ok (.iadd, 1) := by decide +kernel
theorem dL_law_203 : decode cL_law 203 = .ok (.iaload, 1) := by decide +kernel
theorem dL_law_204 : decode cL_law 204 = .ok (.invokevirtual 23, 3) := by decide +kernel
theorem dL_law_207 : decode cL_law 207 = .ok (.aload_n 2, 1) := by decide +kernel
theorem dL_law_208 : decode cL_law 208 = .ok (.aload_n 0, 1) := by decide +kernel
theorem dL_law_209 : decode cL_law 209 = .ok (.iload_n 3, 1) := by decide +kernel
theorem dL_law_210 : decode cL_law 210 = .ok (.iconst 1, 1) := by decide +kernel
theorem dL_law_211 : decode cL_law 211 = .ok (.iadd, 1) := by decide +kernel
theorem dL_law_212 : decode cL_law 212 = .ok (.iaload, 1) := by decide +kernel
theorem dL_law_213 : decode cL_law 213 = .ok (.aload_n 0, 1) := by decide +kernel
theorem dL_law_214 : decode cL_law 214 = .ok (.iload_n 3, 1) := by decide +kernel
theorem dL_law_215 : decode cL_law 215 = .ok (.iconst 2, 1) := by decide +kernel
theorem dL_law_216 : decode cL_law 216 = .ok (.iadd, 1) := by decide +kernel
theorem dL_law_217 : decode cL_law 217 = .ok (.iaload, 1) := by decide +kernel
theorem dL_law_218 : decode cL_law 218 = .ok (.aload_n 0, 1) := by decide +kernel
theorem dL_law_219 : decode cL_law 219 = .ok (.iload_n 3, 1) := by decide +kernel
theorem dL_law_220 : decode cL_law 220 = .ok (.iconst 3, 1) := by decide +kernel
theorem dL_law_221 : decode cL_law 221 = .ok (.iadd, 1) := by decide +kernel
theorem dL_law_222 : decode cL_law 222 = .ok (.iaload, 1) := by decide +kernel
theorem dL_law_223 : decode cL_law 223 = .ok (.invokevirtual 26, 3) := by decide +kernel
theorem dL_law_226 : decode cL_law 226 = .ok (.if_icmp .eq 332, 3) := by decide +kernel
theorem dL_law_229 : decode cL_law 229 = .ok (.iconst 0, 1) := by decide +kernel
theorem dL_law_230 : decode cL_law 230 = .ok (.ireturn, 1) := by decide +kernel
theorem dL_law_231 : decode cL_law 231 = .ok (.aload_n 1, 1) := by decide +kernel
theorem dL_law_232 : decode cL_law 232 = .ok (.aload_n 0, 1) := by decide +kernel
theorem dL_law_233 : decode cL_law 233 = .ok (.iload_n 3, 1) := by decide +kernel
theorem dL_law_234 : decode cL_law 234 = .ok (.iconst 1, 1) := by decide +kernel
theorem dL_law_235 : decode cL_law 235 = .ok (.iadd, 1) := by decide +kernel
theorem dL_law_236 : decode cL_law 236 = .ok (.iaload, 1) := by decide +kernel
theorem dL_law_237 : decode cL_law 237 = .ok (.aload_n 0, 1) := by decide +kernel
theorem dL_law_238 : decode cL_law 238 = .ok (.iload_n 3, 1) := by decide +kernel
theorem dL_law_239 : decode cL_law 239 = .ok (.iconst 2, 1) := by decide +kernel
theorem dL_law_240 : decode cL_law 240 = .ok (.iadd, 1) := by decide +kernel
theorem dL_law_241 : decode cL_law 241 = .ok (.iaload, 1) := by decide +kernel
theorem dL_law_242 : decode cL_law 242 = .ok (.aload_n 0, 1) := by decide +kernel
theorem dL_law_243 : decode cL_law 243 = .ok (.iload_n 3, 1) := by decide +kernel
theorem dL_law_244 : decode cL_law 244 = .ok (.iconst 3, 1) := by decide +kernel
theorem dL_law_245 : decode cL_law 245 = .ok (.iadd, 1) := by decide +kernel
theorem dL_law_246 : decode cL_law 246 = .ok (.iaload, 1) := by decide +kernel
theorem dL_law_247 : decode cL_law 247 = .ok (.invokevirtual 27, 3) := by decide +kernel
theorem dL_law_250 : decode cL_law 250 = .ok (.aload_n 2, 1) := by decide +kernel
theorem dL_law_251 : decode cL_law 251 = .ok (.aload_n 0, 1) := by decide +kernel
theorem dL_law_252 : decode cL_law 252 = .ok (.iload_n 3, 1) := by decide +kernel
theorem dL_law_253 : decode cL_law 253 = .ok (.iconst 1, 1) := by decide +kernel
theorem dL_law_254 : decode cL_law 254 = .ok (.iadd, 1) := by decide +kernel
theorem dL_law_255 : decode cL_law 255 = .ok (.iaload, 1) := by decide +kernel
theorem dL_law_256 : decode cL_law 256 = .ok (.aload_n 0, 1) := by decide +kernel
theorem dL_law_257 : decode cL_law 257 = .ok (.iload_n 3, 1) := by decide +kernel
theorem dL_law_258 : decode cL_law 258 = .ok (.iconst 2, 1) := by decide +kernel
theorem dL_law_259 : decode cL_law 259 = .ok (.iadd, 1) := by decide +kernel
theorem dL_law_260 : decode cL_law 260 = .ok (.iaload, 1) := by decide +kernel
theorem dL_law_261 : decode cL_law 261 = .ok (.aload_n 0, 1) := by decide +kernel
theorem dL_law_262 : decode cL_law 262 = .ok (.iload_n 3, 1) := by decide +kernel
theorem dL_law_263 : decode cL_law 263 = .ok (.iconst 3, 1) := by decide +kernel
theorem dL_law_264 : decode cL_law 264 = .ok (.iadd, 1) := by decide +kernel
theorem dL_law_265 : decode cL_law 265 = .ok (.iaload, 1) := by decide +kernel
theorem dL_law_266 : decode cL_law 266 = .ok (.invokevirtual 30, 3) := by decide +kernel
theorem dL_law_269 : decode cL_law 269 = .ok (.if_icmp .eq 289, 3) := by decide +kernel
theorem dL_law_272 : decode cL_law 272 = .ok (.iconst 0, 1) := by decide +kernel
theorem dL_law_273 : decode cL_law 273 = .ok (.ireturn, 1) := by decide +kernel
theorem dL_law_274 : decode cL_law 274 = .ok (.aload_n 1, 1) := by decide +kernel
theorem dL_law_275 : decode cL_law 275 = .ok (.aload_n 0, 1) := by decide +kernel
theorem dL_law_276 : decode cL_law 276 = .ok (.iload_n 3, 1) := by decide +kernel
theorem dL_law_277 : decode cL_law 277 = .ok (.iconst 1, 1) := by decide +kernel
theorem dL_law_278 : decode cL_law 278 = .ok (.iadd, 1) := by decide +kernel
theorem dL_law_279 : decode cL_law 279 = .ok (.iaload, 1) := by decide +kernel
theorem dL_law_280 : decode cL_law 280 = .ok (.aload_n 0, 1) := by decide +kernel
theorem dL_law_281 : decode cL_law 281 = .ok (.iload_n 3, 1) := by decide +kernel
theorem dL_law_282 : decode cL_law 282 = .ok (.iconst 2, 1) := by decide +kernel
theorem dL_law_283 : decode cL_law 283 = .ok (.iadd, 1) := by decide +kernel
theorem dL_law_284 : decode cL_law 284 = .ok (.iaload, 1) := by decide +kernel
theorem dL_law_285 : decode cL_law 285 = .ok (.aload_n 0, 1) := by decide +kernel
theorem dL_law_286 : decode cL_law 286 = .ok (.iload_n 3, 1) := by decide +kernel
theorem dL_law_287 : decode cL_law 287 = .ok (.iconst 3, 1) := by decide +kernel
theorem dL_law_288 : decode cL_law 288 = .ok (.iadd, 1) := by decide +kernel
theorem dL_law_289 : decode cL_law 289 = .ok (.iaload, 1) := by decide +kernel
theorem dL_law_290 : decode cL_law 290 = .ok (.invokevirtual 31, 3) := by decide +kernel
theorem dL_law_293 : decode cL_law 293 = .ok (.aload_n 2, 1) := by decide +kernel
theorem dL_law_294 : decode cL_law 294 = .ok (.aload_n 0, 1) := by decide +kernel
theorem dL_law_295 : decode cL_law 295 = .ok (.iload_n 3, 1) := by decide +kernel
theorem dL_law_296 : decode cL_law 296 = .ok (.iconst 1, 1) := by decide +kernel
theorem dL_law_297 : decode cL_law 297 = .ok (.iadd, 1) := by decide +kernel
theorem dL_law_298 : decode cL_law 298 = .ok (.iaload, 1) := by decide +kernel
theorem dL_law_299 : decode cL_law 299 = .ok (.aload_n 0, 1) := by decide +kernel
theorem dL_law_300 : decode cL_law 300 = .ok (.iload_n 3, 1) := by decide +kernel
theorem dL_law_301 : decode cL_law 301 = .ok (.iconst 2, 1) := by decide +kernel
theorem dL_law_302 : decode cL_law 302 = .ok (.iadd, 1) := by decide +kernel
theorem dL_law_303 : decode cL_law 303 = .ok (.iaload, 1) := by decide +kernel
theorem dL_law_304 : decode cL_law 304 = .ok (.aload_n 0, 1) := by decide +kernel
theorem dL_law_305 : decode cL_law 305 = .ok (.iload_n 3, 1) := by decide +kernel
theorem dL_law_306 : decode cL_law 306 = .ok (.iconst 3, 1) := by decide +kernel
theorem dL_law_307 : decode cL_law 307 = .ok (.iadd, 1) := by decide +kernel
theorem dL_law_308 : decode cL_law 308 = .ok (.iaload, 1) := by decide +kernel
theorem dL_law_309 : decode cL_law 309 = .ok (.invokevirtual 34, 3) := by decide +kernel
theorem dL_law_312 : decode cL_law 312 = .ok (.if_icmp .eq 246, 3) := by decide +kernel
theorem dL_law_315 : decode cL_law 315 = .ok (.iconst 0, 1) := by decide +kernel
theorem dL_law_316 : decode cL_law 316 = .ok (.ireturn, 1) := by decide +kernel
theorem dL_law_317 : decode cL_law 317 = .ok (.aload_n 1, 1) := by decide +kernel
theorem dL_law_318 : decode cL_law 318 = .ok (.aload_n 0, 1) := by decide +kernel
theorem dL_law_319 : decode cL_law 319 = .ok (.iload_n 3, 1) := by decide +kernel
theorem dL_law_320 : decode cL_law 320 = .ok (.iconst 1, 1) := by decide +kernel
theorem dL_law_321 : decode cL_law 321 = .ok (.iadd, 1) := by decide +kernel
theorem dL_law_322 : decode cL_law 322 = .ok (.iaload, 1) := by decide +kernel
theorem dL_law_323 : decode cL_law 323 = .ok (.invokevirtual 35, 3) := by decide +kernel
theorem dL_law_326 : decode cL_law 326 = .ok (.aload_n 2, 1) := by decide +kernel
theorem dL_law_327 : decode cL_law 327 = .ok (.aload_n 0, 1) := by decide +kernel
theorem dL_law_328 : decode cL_law 328 = .ok (.iload_n 3, 1) := by decide +kernel
theorem dL_law_329 : decode cL_law 329 = .ok (.iconst 1, 1) := by decide +kernel
theorem dL_law_330 : decode cL_law 330 = .ok (.iadd, 1) := by decide +kernel
theorem dL_law_331 : decode cL_law 331 = .ok (.iaload, 1) := by decide +kernel
theorem dL_law_332 : decode cL_law 332 = .ok (.invokevirtual 39, 3) := by decide +kernel
theorem dL_law_335 : decode cL_law 335 = .ok (.if_icmp .eq 223, 3) := by decide +kernel
theorem dL_law_338 : decode cL_law 338 = .ok (.iconst 0, 1) := by decide +kernel
theorem dL_law_339 : decode cL_law 339 = .ok (.ireturn, 1) := by decide +kernel
theorem dL_law_340 : decode cL_law 340 = .ok (.aload_n 1, 1) := by decide +kernel
theorem dL_law_341 : decode cL_law 341 = .ok (.invokevirtual 40, 3) := by decide +kernel
theorem dL_law_344 : decode cL_law 344 = .ok (.aload_n 2, 1) := by decide +kernel
theorem dL_law_345 : decode cL_law 345 = .ok (.invokevirtual 44, 3) := by decide +kernel
theorem dL_law_348 : decode cL_law 348 = .ok (.if_icmp .eq 210, 3) := by decide +kernel
theorem dL_law_351 : decode cL_law 351 = .ok (.iconst 0, 1) := by decide +kernel
theorem dL_law_352 : decode cL_law 352 = .ok (.ireturn, 1) := by decide +kernel
theorem dL_law_353 : decode cL_law 353 = .ok (.aload_n 1, 1) := by decide +kernel
theorem dL_law_354 : decode cL_law 354 = .ok (.invokevirtual 45, 3) := by decide +kernel
theorem dL_law_357 : decode cL_law 357 = .ok (.aload_n 2, 1) := by decide +kernel
theorem dL_law_358 : decode cL_law 358 = .ok (.invokevirtual 48, 3) := by decide +kernel
theorem dL_law_361 : decode cL_law 361 = .ok (.goto 197, 3) := by decide +kernel
theorem dL_law_364 : decode cL_law 364 = .ok (.aload_n 1, 1) := by decide +kernel
theorem dL_law_365 : decode cL_law 365 = .ok (.aload_n 0, 1) := by decide +kernel
theorem dL_law_366 : decode cL_law 366 = .ok (.iload_n 3, 1) := by decide +kernel
theorem dL_law_367 : decode cL_law 367 = .ok (.iconst 1, 1) := by decide +kernel
theorem dL_law_368 : decode cL_law 368 = .ok (.iadd, 1) := by decide +kernel
theorem dL_law_369 : decode cL_law 369 = .ok (.iaload, 1) := by decide +kernel
theorem dL_law_370 : decode cL_law 370 = .ok (.aload_n 0, 1) := by decide +kernel
theorem dL_law_371 : decode cL_law 371 = .ok (.iload_n 3, 1) := by decide +kernel
theorem dL_law_372 : decode cL_law 372 = .ok (.iconst 2, 1) := by decide +kernel
theorem dL_law_373 : decode cL_law 373 = .ok (.iadd, 1) := by decide +kernel
theorem dL_law_374 : decode cL_law 374 = .ok (.iaload, 1) := by decide +kernel
theorem dL_law_375 : decode cL_law 375 = .ok (.invokevirtual 49, 3) := by decide +kernel
theorem dL_law_378 : decode cL_law 378 = .ok (.aload_n 2, 1) := by decide +kernel
theorem dL_law_379 : decode cL_law 379 = .ok (.aload_n 0, 1) := by decide +kernel
theorem dL_law_380 : decode cL_law 380 = .ok (.iload_n 3, 1) := by decide +kernel
theorem dL_law_381 : decode cL_law 381 = .ok (.iconst 1, 1) := by decide +kernel
theorem dL_law_382 : decode cL_law 382 = .ok (.iadd, 1) := by decide +kernel
theorem dL_law_383 : decode cL_law 383 = .ok (.iaload, 1) := by decide +kernel
theorem dL_law_384 : decode cL_law 384 = .ok (.aload_n 0, 1) := by decide +kernel
theorem dL_law_385 : decode cL_law 385 = .ok (.iload_n 3, 1) := by decide +kernel
theorem dL_law_386 : decode cL_law 386 = .ok (.iconst 2, 1) := by decide +kernel
theorem dL_law_387 : decode cL_law 387 = .ok (.iadd, 1) := by decide +kernel
theorem dL_law_388 : decode cL_law 388 = .ok (.iaload, 1) := by decide +kernel
theorem dL_law_389 : decode cL_law 389 = .ok (.invokevirtual 52, 3) := by decide +kernel
theorem dL_law_392 : decode cL_law 392 = .ok (.if_icmp .eq 166, 3) := by decide +kernel
theorem dL_law_395 : decode cL_law 395 = .ok (.iconst 0, 1) := by decide +kernel
theorem dL_law_396 : decode cL_law 396 = .ok (.ireturn, 1) := by decide +kernel
theorem dL_law_397 : decode cL_law 397 = .ok (.aload_n 1, 1) := by decide +kernel
theorem dL_law_398 : decode cL_law 398 = .ok (.aload_n 0, 1) := by decide +kernel
theorem dL_law_399 : decode cL_law 399 = .ok (.iload_n 3, 1) := by decide +kernel
theorem dL_law_400 : decode cL_law 400 = .ok (.iconst 1, 1) := by decide +kernel
theorem dL_law_401 : decode cL_law 401 = .ok (.iadd, 1) := by decide +kernel
theorem dL_law_402 : decode cL_law 402 = .ok (.iaload, 1) := by decide +kernel
theorem dL_law_403 : decode cL_law 403 = .ok (.invokevirtual 53, 3) := by decide +kernel
theorem dL_law_406 : decode cL_law 406 = .ok (.aload_n 2, 1) := by decide +kernel
theorem dL_law_407 : decode cL_law 407 = .ok (.aload_n 0, 1) := by decide +kernel
theorem dL_law_408 : decode cL_law 408 = .ok (.iload_n 3, 1) := by decide +kernel
theorem dL_law_409 : decode cL_law 409 = .ok (.iconst 1, 1) := by decide +kernel
theorem dL_law_410 : decode cL_law 410 = .ok (.iadd, 1) := by decide +kernel
theorem dL_law_411 : decode cL_law 411 = .ok (.iaload, 1) := by decide +kernel
theorem dL_law_412 : decode cL_law 412 = .ok (.invokevirtual 56, 3) := by decide +kernel
theorem dL_law_415 : decode cL_law 415 = .ok (.if_icmp .eq 143, 3) := by decide +kernel
theorem dL_law_418 : decode cL_law 418 = .ok (.iconst 0, 1) := by decide +kernel
theorem dL_law_419 : decode cL_law 419 = .ok (.ireturn, 1) := by decide +kernel
theorem dL_law_420 : decode cL_law 420 = .ok (.aload_n 1, 1) := by decide +kernel
theorem dL_law_421 : decode cL_law 421 = .ok (.aload_n 0, 1) := by decide +kernel
theorem dL_law_422 : decode cL_law 422 = .ok (.iload_n 3, 1) := by decide +kernel
theorem dL_law_423 : decode cL_law 423 = .ok (.iconst 1, 1) := by decide +kernel
theorem dL_law_424 : decode cL_law 424 = .ok (.iadd, 1) := by decide +kernel
theorem dL_law_425 : decode cL_law 425 = .ok (.iaload, 1) := by decide +kernel
theorem dL_law_426 : decode cL_law 426 = .ok (.aload_n 0, 1) := by decide +kernel
theorem dL_law_427 : decode cL_law 427 = .ok (.iload_n 3, 1) := by decide +kernel
theorem dL_law_428 : decode cL_law 428 = .ok (.iconst 2, 1) := by decide +kernel
theorem dL_law_429 : decode cL_law 429 = .ok (.iadd, 1) := by decide +kernel
theorem dL_law_430 : decode cL_law 430 = .ok (.iaload, 1) := by decide +kernel
theorem dL_law_431 : decode cL_law 431 = .ok (.invokevirtual 57, 3) := by decide +kernel
theorem dL_law_434 : decode cL_law 434 = .ok (.aload_n 2, 1) := by decide +kernel
theorem dL_law_435 : decode cL_law 435 = .ok (.aload_n 0, 1) := by decide +kernel
theorem dL_law_436 : decode cL_law 436 = .ok (.iload_n 3, 1) := by decide +kernel
theorem dL_law_437 : decode cL_law 437 = .ok (.iconst 1, 1) := by decide +kernel
theorem dL_law_438 : decode cL_law 438 = .ok (.iadd, 1) := by decide +kernel
theorem dL_law_439 : decode cL_law 439 = .ok (.iaload, 1) := by decide +kernel
theorem dL_law_440 : decode cL_law 440 = .ok (.aload_n 0, 1) := by decide +kernel
theorem dL_law_441 : decode cL_law 441 = .ok (.iload_n 3, 1) := by decide +kernel
theorem dL_law_442 : decode cL_law 442 = .ok (.iconst 2, 1) := by decide +kernel
theorem dL_law_443 : decode cL_law 443 = .ok (.iadd, 1) := by decide +kernel
theorem dL_law_444 : decode cL_law 444 = .ok (.iaload, 1) := by decide +kernel
theorem dL_law_445 : decode cL_law 445 = .ok (.invokevirtual 60, 3) := by decide +kernel
theorem dL_law_448 : decode cL_law 448 = .ok (.if_icmp .eq 110, 3) := by decide +kernel
theorem dL_law_451 : decode cL_law 451 = .ok (.iconst 0, 1) := by decide +kernel
theorem dL_law_452 : decode cL_law 452 = .ok (.ireturn, 1) := by decide +kernel
theorem dL_law_453 : decode cL_law 453 = .ok (.aload_n 1, 1) := by decide +kernel
theorem dL_law_454 : decode cL_law 454 = .ok (.aload_n 0, 1) := by decide +kernel
theorem dL_law_455 : decode cL_law 455 = .ok (.iload_n 3, 1) := by decide +kernel
theorem dL_law_456 : decode cL_law 456 = .ok (.iconst 1, 1) := by decide +kernel
theorem dL_law_457 : decode cL_law 457 = .ok (.iadd, 1) := by decide +kernel
theorem dL_law_458 : decode cL_law 458 = .ok (.iaload, 1) := by decide +kernel
theorem dL_law_459 : decode cL_law 459 = .ok (.invokevirtual 61, 3) := by decide +kernel
theorem dL_law_462 : decode cL_law 462 = .ok (.aload_n 2, 1) := by decide +kernel
theorem dL_law_463 : decode cL_law 463 = .ok (.aload_n 0, 1) := by decide +kernel
theorem dL_law_464 : decode cL_law 464 = .ok (.iload_n 3, 1) := by decide +kernel
theorem dL_law_465 : decode cL_law 465 = .ok (.iconst 1, 1) := by decide +kernel
theorem dL_law_466 : decode cL_law 466 = .ok (.iadd, 1) := by decide +kernel
theorem dL_law_467 : decode cL_law 467 = .ok (.iaload, 1) := by decide +kernel
theorem dL_law_468 : decode cL_law 468 = .ok (.invokevirtual 64, 3) := by decide +kernel
theorem dL_law_471 : decode cL_law 471 = .ok (.if_icmp .eq 87, 3) := by decide +kernel
theorem dL_law_474 : decode cL_law 474 = .ok (.iconst 0, 1) := by decide +kernel
theorem dL_law_475 : decode cL_law 475 = .ok (.ireturn, 1) := by decide +kernel
theorem dL_law_476 : decode cL_law 476 = .ok (.aload_n 1, 1) := by decide +kernel
theorem dL_law_477 : decode cL_law 477 = .ok (.aload_n 0, 1) := by decide +kernel
theorem dL_law_478 : decode cL_law 478 = .ok (.iload_n 3, 1) := by decide +kernel
theorem dL_law_479 : decode cL_law 479 = .ok (.iconst 1, 1) := by decide +kernel
theorem dL_law_480 : decode cL_law 480 = .ok (.iadd, 1) := by decide +kernel
theorem dL_law_481 : decode cL_law 481 = .ok (.iaload, 1) := by decide +kernel
theorem dL_law_482 : decode cL_law 482 = .ok (.aload_n 0, 1) := by decide +kernel
theorem dL_law_483 : decode cL_law 483 = .ok (.iload_n 3, 1) := by decide +kernel
theorem dL_law_484 : decode cL_law 484 = .ok (.iconst 2, 1) := by decide +kernel
theorem dL_law_485 : decode cL_law 485 = .ok (.iadd, 1) := by decide +kernel
theorem dL_law_486 : decode cL_law 486 = .ok (.iaload, 1) := by decide +kernel
theorem dL_law_487 : decode cL_law 487 = .ok (.invokevirtual 65, 3) := by decide +kernel
theorem dL_law_490 : decode cL_law 490 = .ok (.aload_n 2, 1) := by decide +kernel
theorem dL_law_491 : decode cL_law 491 = .ok (.aload_n 0, 1) := by decide +kernel
theorem dL_law_492 : decode cL_law 492 = .ok (.iload_n 3, 1) := by decide +kernel
theorem dL_law_493 : decode cL_law 493 = .ok (.iconst 1, 1) := by decide +kernel
theorem dL_law_494 : decode cL_law 494 = .ok (.iadd, 1) := by decide +kernel
theorem dL_law_495 : decode cL_law 495 = .ok (.iaload, 1) := by decide +kernel
theorem dL_law_496 : decode cL_law 496 = .ok (.aload_n 0, 1) := by decide +kernel
theorem dL_law_497 : decode cL_law 497 = .ok (.iload_n 3, 1) := by decide +kernel
theorem dL_law_498 : decode cL_law 498 = .ok (.iconst 2, 1) := by decide +kernel
theorem dL_law_499 : decode cL_law 499 = .ok (.iadd, 1) := by decide +kernel
theorem dL_law_500 : decode cL_law 500 = .ok (.iaload, 1) := by decide +kernel
theorem dL_law_501 : decode cL_law 501 = .ok (.invokevirtual 68, 3) := by decide +kernel
theorem dL_law_504 : decode cL_law 504 = .ok (.if_icmp .eq 54, 3) := by decide +kernel
theorem dL_law_507 : decode cL_law 507 = .ok (.iconst 0, 1) := by decide +kernel
theorem dL_law_508 : decode cL_law 508 = .ok (.ireturn, 1) := by decide +kernel
theorem dL_law_509 : decode cL_law 509 = .ok (.aload_n 1, 1) := by decide +kernel
theorem dL_law_510 : decode cL_law 510 = .ok (.invokevirtual 69, 3) := by decide +kernel
theorem dL_law_513 : decode cL_law 513 = .ok (.aload_n 2, 1) := by decide +kernel
theorem dL_law_514 : decode cL_law 514 = .ok (.invokevirtual 72, 3) := by decide +kernel
theorem dL_law_517 : decode cL_law 517 = .ok (.if_icmp .eq 41, 3) := by decide +kernel
theorem dL_law_520 : decode cL_law 520 = .ok (.iconst 0, 1) := by decide +kernel
theorem dL_law_521 : decode cL_law 521 = .ok (.ireturn, 1) := by decide +kernel
theorem dL_law_522 : decode cL_law 522 = .ok (.aload_n 1, 1) := by decide +kernel
theorem dL_law_523 : decode cL_law 523 = .ok (.invokevirtual 73, 3) := by decide +kernel
theorem dL_law_526 : decode cL_law 526 = .ok (.aload_n 2, 1) := by decide +kernel
theorem dL_law_527 : decode cL_law 527 = .ok (.invokevirtual 76, 3) := by decide +kernel
theorem dL_law_530 : decode cL_law 530 = .ok (.if_icmp .eq 28, 3) := by decide +kernel
theorem dL_law_533 : decode cL_law 533 = .ok (.iconst 0, 1) := by decide +kernel
theorem dL_law_534 : decode cL_law 534 = .ok (.ireturn, 1) := by decide +kernel
theorem dL_law_535 : decode cL_law 535 = .ok (.aload_n 1, 1) := by decide +kernel
theorem dL_law_536 : decode cL_law 536 = .ok (.aload_n 0, 1) := by decide +kernel
theorem dL_law_537 : decode cL_law 537 = .ok (.iload_n 3, 1) := by decide +kernel
theorem dL_law_538 : decode cL_law 538 = .ok (.iconst 1, 1) := by decide +kernel
theorem dL_law_539 : decode cL_law 539 = .ok (.iadd, 1) := by decide +kernel
theorem dL_law_540 : decode cL_law 540 = .ok (.iaload, 1) := by decide +kernel
theorem dL_law_541 : decode cL_law 541 = .ok (.invokevirtual 77, 3) := by decide +kernel
theorem dL_law_544 : decode cL_law 544 = .ok (.aload_n 2, 1) := by decide +kernel
theorem dL_law_545 : decode cL_law 545 = .ok (.aload_n 0, 1) := by decide +kernel
theorem dL_law_546 : decode cL_law 546 = .ok (.iload_n 3, 1) := by decide +kernel
theorem dL_law_547 : decode cL_law 547 = .ok (.iconst 1, 1) := by decide +kernel
theorem dL_law_548 : decode cL_law 548 = .ok (.iadd, 1) := by decide +kernel
theorem dL_law_549 : decode cL_law 549 = .ok (.iaload, 1) := by decide +kernel
theorem dL_law_550 : decode cL_law 550 = .ok (.invokevirtual 80, 3) := by decide +kernel
theorem dL_law_553 : decode cL_law 553 = .ok (.if_icmp .eq 5, 3) := by decide +kernel
theorem dL_law_556 : decode cL_law 556 = .ok (.iconst 0, 1) := by decide +kernel
theorem dL_law_557 : decode cL_law 557 = .ok (.ireturn, 1) := by decide +kernel
theorem dL_law_558 : decode cL_law 558 = .ok (.iinc 3 4, 3) := by decide +kernel
theorem dL_law_561 : decode cL_law 561 = .ok (.goto (-543), 3) := by decide +kernel
theorem dL_law_564 : decode cL_law 564 = .ok (.iconst 1, 1) := by decide +kernel
theorem dL_law_565 : decode cL_law 565 = .ok (.ireturn, 1) := by decide +kernel
end
section
/-! java/lang/Object -/
set_option maxRecDepth 100000
def RJ0 : String := "java/lang/Object"
abbrev cJ0_init : ByteArray := object_method_1_code
def yJ0_init : MethodName := ⟨RJ0, "<init>", "()V"⟩
theorem dJ0_init_0 : decode cJ0_init 0 = .ok (.return_, 1) := by decide +kernel
theorem q36 : (Jvm.Cond.instanceMethod ({ cls := "java/lang/Object", name := "<init>", desc := "()V" } : Jvm.MethodName)) ∈ lw_all := lw_g (lw_at lw_m1 9 rfl) rfl
theorem q37 : (Jvm.Cond.code ({ cls := "java/lang/Object", name := "<init>", desc := "()V" } : Jvm.MethodName) object_method_1_code (1 : Nat) (Option.none : Option Jvm.ClassFile.FieldType)) ∈ lw_all := lw_g (lw_at lw_m1 10 rfl) rfl
theorem q108 : (Jvm.Cond.arrayClass Jvm.ClassFile.FieldType.int) ∈ lw_all := lw_g (lw_at lw_m1 81 rfl) rfl
set_option maxRecDepth 100000
theorem q109 : (Jvm.Cond.arrayClass Jvm.ClassFile.FieldType.boolean) ∈ lw_all := lw_g (lw_at lw_m1 82 rfl) rfl
theorem q27 : (Jvm.Cond.initialized "SpecLoadSchedLaw") ∈ lw_all := lw_g (lw_at lw_m1 0 rfl) rfl
set_option maxRecDepth 100000
theorem q30 : (Jvm.Cond.classLink "SpecLoadSchedLaw" (7 : Nat) "SpecLoadSched") ∈ lw_all := lw_g (lw_at lw_m1 3 rfl) rfl
theorem q32 : (Jvm.Cond.methodLink "SpecLoadSchedLaw" (9 : Nat) ({ cls := "SpecLoadSched", name := "<init>", desc := "()V" } : Jvm.MethodName)) ∈ lw_all := lw_g (lw_at lw_m1 5 rfl) rfl
theorem q110 : (Jvm.Cond.methodLink "SpecLoadSchedLaw" (13 : Nat) ({ cls := "SpecLoadSched", name := "constant", desc := "(II)I" } : Jvm.MethodName)) ∈ lw_all := lw_g (lw_at lw_m1 83 rfl) rfl
theorem q122 : (Jvm.Cond.methodLink "SpecLoadSchedLaw" (18 : Nat) ({ cls := "SpecLoadSched", name := "add", desc := "(III)I" } : Jvm.MethodName)) ∈ lw_all := lw_g (lw_at lw_m1 95 rfl) rfl
theorem q126 : (Jvm.Cond.methodLink "SpecLoadSchedLaw" (23 : Nat) ({ cls := "SpecLoadSched", name := "subtract", desc := "(III)I" } : Jvm.MethodName)) ∈ lw_all := lw_g (lw_at lw_m1 99 rfl) rfl
theorem q130 : (Jvm.Cond.methodLink "SpecLoadSchedLaw" (27 : Nat) ({ cls := "SpecLoadSched", name := "load", desc := "(III)I" } : Jvm.MethodName)) ∈ lw_all := lw_g (lw_at lw_m1 103 rfl) rfl
theorem q134 : (Jvm.Cond.methodLink "SpecLoadSchedLaw" (31 : Nat) ({ cls := "SpecLoadSched", name := "store", desc := "(III)I" } : Jvm.MethodName)) ∈ lw_all := lw_g (lw_at lw_m1 107 rfl) rfl
theorem q138 : (Jvm.Cond.methodLink "SpecLoadSchedLaw" (35 : Nat) ({ cls := "SpecLoadSched", name := "leave", desc := "(I)I" } : Jvm.MethodName)) ∈ lw_all := lw_g (lw_at lw_m1 111 rfl) rfl
theorem q142 : (Jvm.Cond.methodLink "SpecLoadSchedLaw" (40 : Nat) ({ cls := "SpecLoadSched", name := "size", desc := "()I" } : Jvm.MethodName)) ∈ lw_all := lw_g (lw_at lw_m1 115 rfl) rfl
theorem q146 : (Jvm.Cond.methodLink "SpecLoadSchedLaw" (45 : Nat) ({ cls := "SpecLoadSched", name := "clear", desc := "()V" } : Jvm.MethodName)) ∈ lw_all := lw_g (lw_at lw_m1 119 rfl) rfl
theorem q150 : (Jvm.Cond.methodLink "SpecLoadSchedLaw" (49 : Nat) ({ cls := "SpecLoadSched", name := "setRegister", desc := "(II)I" } : Jvm.MethodName)) ∈ lw_all := lw_g (lw_at lw_m1 123 rfl) rfl
theorem q154 : (Jvm.Cond.methodLink "SpecLoadSchedLaw" (53 : Nat) ({ cls := "SpecLoadSched", name := "register", desc := "(I)I" } : Jvm.MethodName)) ∈ lw_all := lw_g (lw_at lw_m1 127 rfl) rfl
theorem q158 : (Jvm.Cond.methodLink "SpecLoadSchedLaw" (57 : Nat) ({ cls := "SpecLoadSched", name := "setWord", desc := "(II)I" } : Jvm.MethodName)) ∈ lw_all := lw_g (lw_at lw_m1 131 rfl) rfl
theorem q166 : (Jvm.Cond.methodLink "SpecLoadSchedLaw" (61 : Nat) ({ cls := "SpecLoadSched", name := "word", desc := "(I)I" } : Jvm.MethodName)) ∈ lw_all := lw_g (lw_at lw_m1 139 rfl) rfl
theorem q170 : (Jvm.Cond.methodLink "SpecLoadSchedLaw" (65 : Nat) ({ cls := "SpecLoadSched", name := "bar", desc := "(II)I" } : Jvm.MethodName)) ∈ lw_all := lw_g (lw_at lw_m1 143 rfl) rfl
theorem q174 : (Jvm.Cond.methodLink "SpecLoadSchedLaw" (69 : Nat) ({ cls := "SpecLoadSched", name := "run", desc := "()I" } : Jvm.MethodName)) ∈ lw_all := lw_g (lw_at lw_m1 147 rfl) rfl
theorem q258 : (Jvm.Cond.methodLink "SpecLoadSchedLaw" (73 : Nat) ({ cls := "SpecLoadSched", name := "last", desc := "()I" } : Jvm.MethodName)) ∈ lw_all := lw_g (lw_at lw_m1 231 rfl) rfl
theorem q262 : (Jvm.Cond.methodLink "SpecLoadSchedLaw" (77 : Nat) ({ cls := "SpecLoadSched", name := "repeat", desc := "(I)I" } : Jvm.MethodName)) ∈ lw_all := lw_g (lw_at lw_m1 235 rfl) rfl
theorem q267 : (Jvm.Cond.classLink "SpecLoadSchedLaw" (10 : Nat) "SpecLoadSchedModel") ∈ lw_all := lw_g (lw_at lw_m2 0 rfl) rfl
theorem q269 : (Jvm.Cond.methodLink "SpecLoadSchedLaw" (12 : Nat) ({ cls := "SpecLoadSchedModel", name := "<init>", desc := "()V" } : Jvm.MethodName)) ∈ lw_all := lw_g (lw_at lw_m2 2 rfl) rfl
theorem q301 : (Jvm.Cond.methodLink "SpecLoadSchedLaw" (17 : Nat) ({ cls := "SpecLoadSchedModel", name := "constant", desc := "(II)I" } : Jvm.MethodName)) ∈ lw_all := lw_g (lw_at lw_m2 34 rfl) rfl
theorem q313 : (Jvm.Cond.methodLink "SpecLoadSchedLaw" (22 : Nat) ({ cls := "SpecLoadSchedModel", name := "add", desc := "(III)I" } : Jvm.MethodName)) ∈ lw_all := lw_g (lw_at lw_m2 46 rfl) rfl
theorem q317 : (Jvm.Cond.methodLink "SpecLoadSchedLaw" (26 : Nat) ({ cls := "SpecLoadSchedModel", name := "subtract", desc := "(III)I" } : Jvm.MethodName)) ∈ lw_all := lw_g (lw_at lw_m2 50 rfl) rfl
theorem q321 : (Jvm.Cond.methodLink "SpecLoadSchedLaw" (30 : Nat) ({ cls := "SpecLoadSchedModel", name := "load", desc := "(III)I" } : Jvm.MethodName)) ∈ lw_all := lw_g (lw_at lw_m2 54 rfl) rfl
theorem q325 : (Jvm.Cond.methodLink "SpecLoadSchedLaw" (34 : Nat) ({ cls := "SpecLoadSchedModel", name := "store", desc := "(III)I" } : Jvm.MethodName)) ∈ lw_all := lw_g (lw_at lw_m2 58 rfl) rfl
theorem q329 : (Jvm.Cond.methodLink "SpecLoadSchedLaw" (39 : Nat) ({ cls := "SpecLoadSchedModel", name := "leave", desc := "(I)I" } : Jvm.MethodName)) ∈ lw_all := lw_g (lw_at lw_m2 62 rfl) rfl
theorem q333 : (Jvm.Cond.methodLink "SpecLoadSchedLaw" (44 : Nat) ({ cls := "SpecLoadSchedModel", name := "size", desc := "()I" } : Jvm.MethodName)) ∈ lw_all := lw_g (lw_at lw_m2 66 rfl) rfl
theorem q337 : (Jvm.Cond.methodLink "SpecLoadSchedLaw" (48 : Nat) ({ cls := "SpecLoadSchedModel", name := "clear", desc := "()V" } : Jvm.MethodName)) ∈ lw_all := lw_g (lw_at lw_m2 70 rfl) rfl
theorem q341 : (Jvm.Cond.methodLink "SpecLoadSchedLaw" (52 : Nat) ({ cls := "SpecLoadSchedModel", name := "setRegister", desc := "(II)I" } : Jvm.MethodName)) ∈ lw_all := lw_g (lw_at lw_m2 74 rfl) rfl
theorem q345 : (Jvm.Cond.methodLink "SpecLoadSchedLaw" (56 : Nat) ({ cls := "SpecLoadSchedModel", name := "register", desc := "(I)I" } : Jvm.MethodName)) ∈ lw_all := lw_g (lw_at lw_m2 78 rfl) rfl
theorem q349 : (Jvm.Cond.methodLink "SpecLoadSchedLaw" (60 : Nat) ({ cls := "SpecLoadSchedModel", name := "setWord", desc := "(II)I" } : Jvm.MethodName)) ∈ lw_all := lw_g (lw_at lw_m2 82 rfl) rfl
theorem q357 : (Jvm.Cond.methodLink "SpecLoadSchedLaw" (64 : Nat) ({ cls := "SpecLoadSchedModel", name := "word", desc := "(I)I" } : Jvm.MethodName)) ∈ lw_all := lw_g (lw_at lw_m2 90 rfl) rfl
theorem q361 : (Jvm.Cond.methodLink "SpecLoadSchedLaw" (68 : Nat) ({ cls := "SpecLoadSchedModel", name := "bar", desc := "(II)I" } : Jvm.MethodName)) ∈ lw_all := lw_g (lw_at lw_m2 94 rfl) rfl
theorem q365 : (Jvm.Cond.methodLink "SpecLoadSchedLaw" (72 : Nat) ({ cls := "SpecLoadSchedModel", name := "run", desc := "()I" } : Jvm.MethodName)) ∈ lw_all := lw_g (lw_at lw_m2 98 rfl) rfl
theorem q373 : (Jvm.Cond.methodLink "SpecLoadSchedLaw" (76 : Nat) ({ cls := "SpecLoadSchedModel", name := "last", desc := "()I" } : Jvm.MethodName)) ∈ lw_all := lw_g (lw_at lw_m2 106 rfl) rfl
theorem q377 : (Jvm.Cond.methodLink "SpecLoadSchedLaw" (80 : Nat) ({ cls := "SpecLoadSchedModel", name := "repeat", desc := "(I)I" } : Jvm.MethodName)) ∈ lw_all := lw_g (lw_at lw_m2 110 rfl) rfl
end
section
/-! the walk's own layer: heap, frame and locals hidden in one judgement zG -/
set_option maxRecDepth 100000
abbrev vwCl : List vw_C := [(RX0, TX0, 23), (RX1, TX1, 9)]
abbrev zz_T : Type := Program × Launch × Env × Room × State × MethodId × Array Value × List Frame × Method × Code × (State → Prop) × va_G × (Nat → Prop) × Nat × Nat × Nat
def zp (Z : zz_T) : Program := Z.1
def zl (Z : zz_T) : Launch := Z.2.1
def ze (Z : zz_T) : Env := Z.2.2.1
def zR (Z : zz_T) : Room := Z.2.2.2.1
def zs (Z : zz_T) : State := Z.2.2.2.2.1
def zm (Z : zz_T) : MethodId := Z.2.2.2.2.2.1
def za (Z : zz_T) : Array Value := Z.2.2.2.2.2.2.1
def zb (Z : zz_T) : List Frame := Z.2.2.2.2.2.2.2.1
def zM (Z : zz_T) : Method := Z.2.2.2.2.2.2.2.2.1
def zc (Z : zz_T) : Code := Z.2.2.2.2.2.2.2.2.2.1
def zQ (Z : zz_T) : State → Prop := Z.2.2.2.2.2.2.2.2.2.2.1
def zD (Z : zz_T) : va_G := Z.2.2.2.2.2.2.2.2.2.2.2.1
def zA (Z : zz_T) : Nat → Prop := Z.2.2.2.2.2.2.2.2.2.2.2.2.1
def zn (Z : zz_T) : Nat := Z.2.2.2.2.2.2.2.2.2.2.2.2.2.1
def zce (Z : zz_T) : Nat := Z.2.2.2.2.2.2.2.2.2.2.2.2.2.2.1
def zsl (Z : zz_T) : Nat := Z.2.2.2.2.2.2.2.2.2.2.2.2.2.2.2
def zW (Z : zz_T) (H : Heap) (locs : List Loc) (g : JFrame) : Prop := W (zp Z) (zl Z) (ze Z) (zR Z) (zs Z) (zm Z) (za Z) (zb Z) (zM Z) (zc Z) H locs (zce Z) (zsl Z) (zQ Z) g
/-- from any heap that holds the world of F, at pc with these locals and this stack, the machine comes to its end -/
def zG {σ : Type} (Z : zz_T) (w : σ → va_W) (pc : Nat) (lv : List (Nat × Value)) (st : List Value) (F : σ) : Prop := ∀ (H : Heap) (locs : List Loc) (ls : Array Slot), va_P (zD Z) vwCl (w F) H → va_D (zA Z) (w F) → va_S (zA Z) (zs Z).heap H locs → lv_has ls (zn Z) lv → zW Z H locs (F0 (zm Z) pc ls st)
/-- what stands all through a method's walk -/
def zok (Z : zz_T) (own : String) (cc : ByteArray) (nL : Nat) (tys : List (ClassId × FieldType)) (fr lc : Nat) : Prop := (zp Z).tables.exec = Jvm.exec ∧ (zc Z).code = cc ∧ zn Z = nL ∧ (zc Z).maxLocals = nL ∧ (zs Z).vm.findClass own = some (zm Z).cls ∧ (∀ w ∈ lw_all, w.before (za Z) (zs Z) = true) ∧ (zM Z).locks = false ∧ va_K (zD Z) vwCl tys (zs Z) ∧ (∀ q : Nat, (zs Z).heap.size ≤ q → zA Z q) ∧ (zR Z).frames = fr ∧ (zR Z).locals = lc ∧ zce Z ≤ (zR Z).cells ∧ zsl Z ≤ (zR Z).slots
/-- a contract with an int (or boolean) answer -/
def MI {σ : Type} (l : Launch) (y : MethodName) (cc : ByteArray) (nL : Nat) (ty : FieldType) (fr lc : Nat) (D : va_G) (tys : List (ClassId × FieldType)) (w : σ → va_W) (av : List Value) (F : σ) (post : Int32 → σ → Prop) : Prop :=
  ∀ sz : Nat, Met l y (ws_ y cc nL (some ty)) ({ frames := fr, cells := 0, slots := 0, locals := lc }) (va_Pc av (fun U => U.heap.size = sz ∧ va_P D vwCl (w F) U.heap ∧ va_K D vwCl tys U ∧ va_D (fun _ => True) (w F))) (va_Qi post (fun F' t => va_P D vwCl (w F') t.heap ∧ va_K D vwCl tys t ∧ va_D (va_A (w F) sz) (w F')) (va_A (w F) sz)) 0 0 (va_A (w F) sz)
/-- a contract without an answer -/
def MV {σ : Type} (l : Launch) (y : MethodName) (cc : ByteArray) (nL : Nat) (fr lc : Nat) (D : va_G) (tys : List (ClassId × FieldType)) (w : σ → va_W) (av : List Value) (F : σ) (post : σ → Prop) : Prop :=
  ∀ sz : Nat, Met l y (ws_ y cc nL none) ({ frames := fr, cells := 0, slots := 0, locals := lc }) (va_Pc av (fun U => U.heap.size = sz ∧ va_P D vwCl (w F) U.heap ∧ va_K D vwCl tys U ∧ va_D (fun _ => True) (w F))) (va_Qv post (fun F' t => va_P D vwCl (w F') t.heap ∧ va_K D vwCl tys t ∧ va_D (va_A (w F) sz) (w F')) (va_A (w F) sz)) 0 0 (va_A (w F) sz)
def zendI {σ : Type} (Z : zz_T) (w : σ → va_W) (tys : List (ClassId × FieldType)) (ty : FieldType) (post : Int32 → σ → Prop) : Prop := (zM Z).sig.returnType = some ty ∧ zQ Z = MQ (zb Z) (va_Qi post (fun F' t => va_P (zD Z) vwCl (w F') t.heap ∧ va_K (zD Z) vwCl tys t ∧ va_D (zA Z) (w F')) (zA Z)) (za Z) (zs Z) (zce Z) (zsl Z) (zA Z)
def zendV {σ : Type} (Z : zz_T) (w : σ → va_W) (tys : List (ClassId × FieldType)) (post : σ → Prop) : Prop := (zM Z).sig.returnType = none ∧ zQ Z = MQ (zb Z) (va_Qv post (fun F' t => va_P (zD Z) vwCl (w F') t.heap ∧ va_K (zD Z) vwCl tys t ∧ va_D (zA Z) (w F')) (zA Z)) (za Z) (zs Z) (zce Z) (zsl Z) (zA Z)
theorem MI_start {σ : Type} {l : Launch} {y : MethodName} {cc : ByteArray} {nL : Nat} {ty : FieldType} {fr lc : Nat} {D : va_G} {tys : List (ClassId × FieldType)} {w : σ → va_W} {av : List Value} {F : σ} {post : Int32 → σ → Prop} (lv : List (Nat × Value)) (hy : plainName y.cls = true) (hlen : (lg_sl av).length ≤ nL) (hlv : lv_args 0 av = lv)
    (body : ∀ Z : zz_T, zok Z y.cls cc nL tys fr lc → zendI Z w tys ty post → zG Z w 0 lv [] F) : MI l y cc nL ty fr lc D tys w av F post := by
  intro sz
  refine Met.ofW (cc := cc) (maxL := nL) (ret := some ty) hy rfl ?_
  intro p e s m args below meth c s₁ B hml hv
  obtain ⟨rfl, hsz, hP, hK, hD0⟩ := hv
  have hts := atoms_spec (ws := ws_ y cc nL (some ty)) B.pre
  have hts : ∀ w ∈ lw_all, w.before _ s = true := fun w h => hts w (List.mem_cons_of_mem _ h)
  have hown : s.vm.findClass y.cls = some m.cls := findClass_of_methodNamed B.named
  subst hsz
  have hD := hD0.self (sz := s.heap.size)
  have hl := lv_entry av (n := nL) hlen
  rw [hlv] at hl
  rw [lg_entry_eq]
  have hA : ∀ q : Nat, s.heap.size ≤ q → va_A (w F) s.heap.size q := fun q h => Or.inr h
  exact body (p, l, e, (headSpec (ws_ y cc nL (some ty)) ({ frames := fr, cells := 0, slots := 0, locals := lc })).room, s, m, av.toArray, below, meth, c, MQ below (va_Qi post (fun F' t => va_P D vwCl (w F') t.heap ∧ va_K D vwCl tys t ∧ va_D (va_A (w F) s.heap.size) (w F')) (va_A (w F) s.heap.size)) av.toArray s 0 0 (va_A (w F) s.heap.size), D, va_A (w F) s.heap.size, nL, 0, 0) ⟨B.exec, B.bytes, rfl, hml, hown, hts, B.notSynchronized, hK, hA, rfl, rfl, Nat.zero_le _, Nat.zero_le _⟩ ⟨B.returns, rfl⟩ s.heap [] _ hP hD va_S.rf hl
theorem MV_start {σ : Type} {l : Launch} {y : MethodName} {cc : ByteArray} {nL : Nat} {fr lc : Nat} {D : va_G} {tys : List (ClassId × FieldType)} {w : σ → va_W} {av : List Value} {F : σ} {post : σ → Prop} (lv : List (Nat × Value)) (hy : plainName y.cls = true) (hlen : (lg_sl av).length ≤ nL) (hlv : lv_args 0 av = lv)
    (body : ∀ Z : zz_T, zok Z y.cls cc nL tys fr lc → zendV Z w tys post → zG Z w 0 lv [] F) : MV l y cc nL fr lc D tys w av F post := by
  intro sz
  refine Met.ofW (cc := cc) (maxL := nL) (ret := none) hy rfl ?_
  intro p e s m args below meth c s₁ B hml hv
  obtain ⟨rfl, hsz, hP, hK, hD0⟩ := hv
  have hts := atoms_spec (ws := ws_ y cc nL none) B.pre
  have hts : ∀ w ∈ lw_all, w.before _ s = true := fun w h => hts w (List.mem_cons_of_mem _ h)
  have hown : s.vm.findClass y.cls = some m.cls := findClass_of_methodNamed B.named
  subst hsz
  have hD := hD0.self (sz := s.heap.size)
  have hl := lv_entry av (n := nL) hlen
  rw [hlv] at hl
  rw [lg_entry_eq]
  have hA : ∀ q : Nat, s.heap.size ≤ q → va_A (w F) s.heap.size q := fun q h => Or.inr h
  exact body (p, l, e, (headSpec (ws_ y cc nL none) ({ frames := fr, cells := 0, slots := 0, locals := lc })).room, s, m, av.toArray, below, meth, c, MQ below (va_Qv post (fun F' t => va_P D vwCl (w F') t.heap ∧ va_K D vwCl tys t ∧ va_D (va_A (w F) s.heap.size) (w F')) (va_A (w F) s.heap.size)) av.toArray s 0 0 (va_A (w F) s.heap.size), D, va_A (w F) s.heap.size, nL, 0, 0) ⟨B.exec, B.bytes, rfl, hml, hown, hts, B.notSynchronized, hK, hA, rfl, rfl, Nat.zero_le _, Nat.zero_le _⟩ ⟨B.returns, rfl⟩ s.heap [] _ hP hD va_S.rf hl
section ZR
variable {σ : Type} {Z : zz_T} {w : σ → va_W} {own : String} {cc : ByteArray} {nL : Nat} {tys : List (ClassId × FieldType)} {fr lc : Nat} {lv : List (Nat × Value)} {st : List Value} {F : σ}
theorem z_iret {ty : FieldType} {post : Int32 → σ → Prop} (K : zok Z own cc nL tys fr lc) (E : zendI Z w tys ty post) (pc : Nat) {v : Int32} (hdg : decode cc pc = .ok (.ireturn, 1)) (hn : narrow ty (.int v) = .int v) (hp : post v F) : zG Z w pc lv [.int v] F := by
  intro H locs ls hP hD hS hl
  obtain ⟨hr, hq⟩ := E
  unfold zW
  rw [hq]
  exact W.zret (v := v) K.1 K.2.1 hr hn (fun t ht hW => ⟨⟨v, F, rfl, hp, by rw [ht]; exact hP, va_K.moved hW.alike K.2.2.2.2.2.2.2.1, hD⟩, hS.F ht⟩) hS.2.2 hdg (hlocks := K.2.2.2.2.2.2.1)
theorem z_vret {post : σ → Prop} (K : zok Z own cc nL tys fr lc) (E : zendV Z w tys post) (pc : Nat) (hdg : decode cc pc = .ok (.return_, 1)) (hp : post F) : zG Z w pc lv [] F := by
  intro H locs ls hP hD hS hl
  obtain ⟨hr, hq⟩ := E
  unfold zW
  rw [hq]
  exact W.vret K.1 K.2.1 hr (fun t ht hW => ⟨⟨F, rfl, hp, by rw [ht]; exact hP, va_K.moved hW.alike K.2.2.2.2.2.2.2.1, hD⟩, hS.F ht⟩) hS.2.2 hdg (hlocks := K.2.2.2.2.2.2.1)
theorem z_iconst (pc pc' : Nat) (K : zok Z own cc nL tys fr lc) {n : Int} (v : Int32) (hdg : decode cc pc = .ok (.iconst n, 1)) (hpc : pc + 1 = pc') (hv : Int32.ofInt n = v) (h : zG Z w pc' lv (.int v :: st) F) : zG Z w pc lv st F := by
  subst hpc; exact fun H locs ls hP hD hS hl => lv_iconst K.1 K.2.1 hdg hv (h H locs ls hP hD hS hl)
theorem z_bipush (pc pc' : Nat) (K : zok Z own cc nL tys fr lc) {n : Int} (v : Int32) (hdg : decode cc pc = .ok (.bipush n, 2)) (hpc : pc + 2 = pc') (hv : (Int8.ofInt n).toInt32 = v) (h : zG Z w pc' lv (.int v :: st) F) : zG Z w pc lv st F := by
  subst hpc; exact fun H locs ls hP hD hS hl => lv_bipush K.1 K.2.1 hdg hv (h H locs ls hP hD hS hl)
theorem z_iload_n (pc pc' : Nat) (K : zok Z own cc nL tys fr lc) (kk : Nat) {k : Fin 4} {i : Nat} {x : Int32} (hdg : decode cc pc = .ok (.iload_n k, 1)) (hpc : pc + 1 = pc') (hi : (k : Nat) = i) (hk : lv[kk]? = some (i, .int x)) (h : zG Z w pc' lv (.int x :: st) F) : zG Z w pc lv st F := by
  subst hpc; exact fun H locs ls hP hD hS hl => lv_iload_n K.1 K.2.1 hdg hi (lv_at hl kk hk) (h H locs ls hP hD hS hl)
theorem z_iload (pc pc' : Nat) (K : zok Z own cc nL tys fr lc) (kk : Nat) {i : Nat} {x : Int32} (hdg : decode cc pc = .ok (.iload i, 2)) (hpc : pc + 2 = pc') (hk : lv[kk]? = some (i, .int x)) (h : zG Z w pc' lv (.int x :: st) F) : zG Z w pc lv st F := by
  subst hpc; exact fun H locs ls hP hD hS hl => lv_iload K.1 K.2.1 hdg (lv_at hl kk hk) (h H locs ls hP hD hS hl)
theorem z_aload_n (pc pc' : Nat) (K : zok Z own cc nL tys fr lc) (kk : Nat) {k : Fin 4} {i : Nat} {x : Nat} (hdg : decode cc pc = .ok (.aload_n k, 1)) (hpc : pc + 1 = pc') (hi : (k : Nat) = i) (hk : lv[kk]? = some (i, .ref x)) (h : zG Z w pc' lv (.ref x :: st) F) : zG Z w pc lv st F := by
  subst hpc; exact fun H locs ls hP hD hS hl => lv_aload_n K.1 K.2.1 hdg hi (lv_at hl kk hk) (h H locs ls hP hD hS hl)
theorem z_istore_n (pc pc' : Nat) (K : zok Z own cc nL tys fr lc) (lv' : List (Nat × Value)) {k : Fin 4} {i : Nat} {x : Int32} (hdg : decode cc pc = .ok (.istore_n k, 1)) (hpc : pc + 1 = pc') (hi : (k : Nat) = i) (hn : i < nL) (hl' : (i, Value.int x) :: lv.filter (fun q => !(q.1 == i) && !(q.1 + 1 == i && q.2.category == 2)) = lv') (h : zG Z w pc' lv' st F) : zG Z w pc lv (.int x :: st) F := by
  subst hpc; exact fun H locs ls hP hD hS hl => lv_istore_n K.1 K.2.1 hdg hi hl (by rw [K.2.2.1]; exact hn) hl' (fun ls' hl2 => h H locs ls' hP hD hS hl2)
theorem z_istore (pc pc' : Nat) (K : zok Z own cc nL tys fr lc) (lv' : List (Nat × Value)) {i : Nat} {x : Int32} (hdg : decode cc pc = .ok (.istore i, 2)) (hpc : pc + 2 = pc') (hn : i < nL) (hl' : (i, Value.int x) :: lv.filter (fun q => !(q.1 == i) && !(q.1 + 1 == i && q.2.category == 2)) = lv') (h : zG Z w pc' lv' st F) : zG Z w pc lv (.int x :: st) F := by
  subst hpc; exact fun H locs ls hP hD hS hl => lv_istore K.1 K.2.1 hdg hl (by rw [K.2.2.1]; exact hn) hl' (fun ls' hl2 => h H locs ls' hP hD hS hl2)
theorem z_iinc (pc pc' : Nat) (K : zok Z own cc nL tys fr lc) (lv' : List (Nat × Value)) (kk : Nat) {i : Nat} {n : Int} {x v : Int32} (hdg : decode cc pc = .ok (.iinc i n, 3)) (hpc : pc + 3 = pc') (hk : lv[kk]? = some (i, .int x)) (hv : x + Int32.ofInt n = v) (hn : i < nL) (hl' : (i, Value.int v) :: lv.filter (fun q => !(q.1 == i) && !(q.1 + 1 == i && q.2.category == 2)) = lv') (h : zG Z w pc' lv' st F) : zG Z w pc lv st F := by
  subst hpc; exact fun H locs ls hP hD hS hl => lv_iinc K.1 K.2.1 hdg hl hk hv (by rw [K.2.2.1]; exact hn) hl' (fun ls' hl2 => h H locs ls' hP hD hS hl2)
theorem z_iadd (pc pc' : Nat) (K : zok Z own cc nL tys fr lc) {x y : Int32} (hdg : decode cc pc = .ok (.iadd, 1)) (hpc : pc + 1 = pc') (h : zG Z w pc' lv (.int (x + y) :: st) F) : zG Z w pc lv (.int y :: .int x :: st) F := by
  subst hpc; exact fun H locs ls hP hD hS hl => lv_iadd K.1 K.2.1 hdg (h H locs ls hP hD hS hl)
theorem z_isub (pc pc' : Nat) (K : zok Z own cc nL tys fr lc) {x y : Int32} (hdg : decode cc pc = .ok (.isub, 1)) (hpc : pc + 1 = pc') (h : zG Z w pc' lv (.int (x - y) :: st) F) : zG Z w pc lv (.int y :: .int x :: st) F := by
  subst hpc; exact fun H locs ls hP hD hS hl => lv_isub K.1 K.2.1 hdg (h H locs ls hP hD hS hl)
theorem z_imul (pc pc' : Nat) (K : zok Z own cc nL tys fr lc) {x y : Int32} (hdg : decode cc pc = .ok (.imul, 1)) (hpc : pc + 1 = pc') (h : zG Z w pc' lv (.int (x * y) :: st) F) : zG Z w pc lv (.int y :: .int x :: st) F := by
  subst hpc; exact fun H locs ls hP hD hS hl => lv_imul K.1 K.2.1 hdg (h H locs ls hP hD hS hl)
theorem z_iand (pc pc' : Nat) (K : zok Z own cc nL tys fr lc) {x y : Int32} (hdg : decode cc pc = .ok (.iand, 1)) (hpc : pc + 1 = pc') (h : zG Z w pc' lv (.int (x &&& y) :: st) F) : zG Z w pc lv (.int y :: .int x :: st) F := by
  subst hpc; exact fun H locs ls hP hD hS hl => lv_iand K.1 K.2.1 hdg (h H locs ls hP hD hS hl)
theorem z_ior (pc pc' : Nat) (K : zok Z own cc nL tys fr lc) {x y : Int32} (hdg : decode cc pc = .ok (.ior, 1)) (hpc : pc + 1 = pc') (h : zG Z w pc' lv (.int (x ||| y) :: st) F) : zG Z w pc lv (.int y :: .int x :: st) F := by
  subst hpc; exact fun H locs ls hP hD hS hl => lv_ior K.1 K.2.1 hdg (h H locs ls hP hD hS hl)
theorem z_ishl (pc pc' : Nat) (K : zok Z own cc nL tys fr lc) {x y : Int32} (hdg : decode cc pc = .ok (.ishl, 1)) (hpc : pc + 1 = pc') (h : zG Z w pc' lv (.int (x <<< (y &&& 31)) :: st) F) : zG Z w pc lv (.int y :: .int x :: st) F := by
  subst hpc; exact fun H locs ls hP hD hS hl => lv_ishl K.1 K.2.1 hdg (h H locs ls hP hD hS hl)
theorem z_ishr (pc pc' : Nat) (K : zok Z own cc nL tys fr lc) {x y : Int32} (hdg : decode cc pc = .ok (.ishr, 1)) (hpc : pc + 1 = pc') (h : zG Z w pc' lv (.int (x >>> (y &&& 31)) :: st) F) : zG Z w pc lv (.int y :: .int x :: st) F := by
  subst hpc; exact fun H locs ls hP hD hS hl => lv_ishr K.1 K.2.1 hdg (h H locs ls hP hD hS hl)
theorem z_dup (pc pc' : Nat) (K : zok Z own cc nL tys fr lc) {va : Value} (hdg : decode cc pc = .ok (.dup, 1)) (hpc : pc + 1 = pc') (hva : va.category = 1) (h : zG Z w pc' lv (va :: va :: st) F) : zG Z w pc lv (va :: st) F := by
  subst hpc; exact fun H locs ls hP hD hS hl => lv_dup K.1 K.2.1 hdg hva (h H locs ls hP hD hS hl)
theorem z_goto (pc tgt : Nat) (K : zok Z own cc nL tys fr lc) {off : Int} (hdg : decode cc pc = .ok (.goto off, 3)) (ht : (pc : Int) + off = (tgt : Int)) (h : zG Z w tgt lv st F) : zG Z w pc lv st F :=
  fun H locs ls hP hD hS hl => lv_goto K.1 K.2.1 hdg ht (h H locs ls hP hD hS hl)
/-- the top of the stack under another name -/
theorem z_top {x : Int32} (pc : Nat) (y : Int32) (e : x = y) (h : zG Z w pc lv (.int y :: st) F) : zG Z w pc lv (.int x :: st) F := e ▸ h
theorem z_if_eq (pc pc' tgt : Nat) (K : zok Z own cc nL tys fr lc) {x : Int32} {off : Int} (hdg : decode cc pc = .ok (.ifCond .eq off, 3)) (hpc : pc + 3 = pc') (ht : (pc : Int) + off = (tgt : Int)) (kt : x = 0 → zG Z w tgt lv st F) (kf : ¬ x = 0 → zG Z w pc' lv st F) : zG Z w pc lv (.int x :: st) F := by
  subst hpc; exact fun H locs ls hP hD hS hl => lv_if_eq K.1 K.2.1 hdg ht (fun q => kt q H locs ls hP hD hS hl) (fun q => kf q H locs ls hP hD hS hl)
theorem z_if_ne (pc pc' tgt : Nat) (K : zok Z own cc nL tys fr lc) {x : Int32} {off : Int} (hdg : decode cc pc = .ok (.ifCond .ne off, 3)) (hpc : pc + 3 = pc') (ht : (pc : Int) + off = (tgt : Int)) (kt : ¬ x = 0 → zG Z w tgt lv st F) (kf : x = 0 → zG Z w pc' lv st F) : zG Z w pc lv (.int x :: st) F := by
  subst hpc; exact fun H locs ls hP hD hS hl => lv_if_ne K.1 K.2.1 hdg ht (fun q => kt q H locs ls hP hD hS hl) (fun q => kf q H locs ls hP hD hS hl)
theorem z_if_lt (pc pc' tgt : Nat) (K : zok Z own cc nL tys fr lc) {x : Int32} {off : Int} (hdg : decode cc pc = .ok (.ifCond .lt off, 3)) (hpc : pc + 3 = pc') (ht : (pc : Int) + off = (tgt : Int)) (kt : x < 0 → zG Z w tgt lv st F) (kf : ¬ x < 0 → zG Z w pc' lv st F) : zG Z w pc lv (.int x :: st) F := by
  subst hpc; exact fun H locs ls hP hD hS hl => lv_if_lt K.1 K.2.1 hdg ht (fun q => kt q H locs ls hP hD hS hl) (fun q => kf q H locs ls hP hD hS hl)
theorem z_if_ge (pc pc' tgt : Nat) (K : zok Z own cc nL tys fr lc) {x : Int32} {off : Int} (hdg : decode cc pc = .ok (.ifCond .ge off, 3)) (hpc : pc + 3 = pc') (ht : (pc : Int) + off = (tgt : Int)) (kt : 0 ≤ x → zG Z w tgt lv st F) (kf : ¬ 0 ≤ x → zG Z w pc' lv st F) : zG Z w pc lv (.int x :: st) F := by
  subst hpc; exact fun H locs ls hP hD hS hl => lv_if_ge K.1 K.2.1 hdg ht (fun q => kt q H locs ls hP hD hS hl) (fun q => kf q H locs ls hP hD hS hl)
theorem z_icmp_eq (pc pc' tgt : Nat) (K : zok Z own cc nL tys fr lc) {x y : Int32} {off : Int} (hdg : decode cc pc = .ok (.if_icmp .eq off, 3)) (hpc : pc + 3 = pc') (ht : (pc : Int) + off = (tgt : Int)) (kt : x = y → zG Z w tgt lv st F) (kf : ¬ x = y → zG Z w pc' lv st F) : zG Z w pc lv (.int y :: .int x :: st) F := by
  subst hpc; exact fun H locs ls hP hD hS hl => lv_icmp_eq K.1 K.2.1 hdg ht (fun q => kt q H locs ls hP hD hS hl) (fun q => kf q H locs ls hP hD hS hl)
theorem z_icmp_ne (pc pc' tgt : Nat) (K : zok Z own cc nL tys fr lc) {x y : Int32} {off : Int} (hdg : decode cc pc = .ok (.if_icmp .ne off, 3)) (hpc : pc + 3 = pc') (ht : (pc : Int) + off = (tgt : Int)) (kt : ¬ x = y → zG Z w tgt lv st F) (kf : x = y → zG Z w pc' lv st F) : zG Z w pc lv (.int y :: .int x :: st) F := by
  subst hpc; exact fun H locs ls hP hD hS hl => lv_icmp_ne K.1 K.2.1 hdg ht (fun q => kt q H locs ls hP hD hS hl) (fun q => kf q H locs ls hP hD hS hl)
theorem z_icmp_lt (pc pc' tgt : Nat) (K : zok Z own cc nL tys fr lc) {x y : Int32} {off : Int} (hdg : decode cc pc = .ok (.if_icmp .lt off, 3)) (hpc : pc + 3 = pc') (ht : (pc : Int) + off = (tgt : Int)) (kt : x < y → zG Z w tgt lv st F) (kf : ¬ x < y → zG Z w pc' lv st F) : zG Z w pc lv (.int y :: .int x :: st) F := by
  subst hpc; exact fun H locs ls hP hD hS hl => lv_icmp_lt K.1 K.2.1 hdg ht (fun q => kt q H locs ls hP hD hS hl) (fun q => kf q H locs ls hP hD hS hl)
theorem z_icmp_le (pc pc' tgt : Nat) (K : zok Z own cc nL tys fr lc) {x y : Int32} {off : Int} (hdg : decode cc pc = .ok (.if_icmp .le off, 3)) (hpc : pc + 3 = pc') (ht : (pc : Int) + off = (tgt : Int)) (kt : x ≤ y → zG Z w tgt lv st F) (kf : ¬ x ≤ y → zG Z w pc' lv st F) : zG Z w pc lv (.int y :: .int x :: st) F := by
  subst hpc; exact fun H locs ls hP hD hS hl => lv_icmp_le K.1 K.2.1 hdg ht (fun q => kt q H locs ls hP hD hS hl) (fun q => kf q H locs ls hP hD hS hl)
theorem z_icmp_gt (pc pc' tgt : Nat) (K : zok Z own cc nL tys fr lc) {x y : Int32} {off : Int} (hdg : decode cc pc = .ok (.if_icmp .gt off, 3)) (hpc : pc + 3 = pc') (ht : (pc : Int) + off = (tgt : Int)) (kt : y < x → zG Z w tgt lv st F) (kf : ¬ y < x → zG Z w pc' lv st F) : zG Z w pc lv (.int y :: .int x :: st) F := by
  subst hpc; exact fun H locs ls hP hD hS hl => lv_icmp_gt K.1 K.2.1 hdg ht (fun q => kt q H locs ls hP hD hS hl) (fun q => kf q H locs ls hP hD hS hl)
theorem z_icmp_ge (pc pc' tgt : Nat) (K : zok Z own cc nL tys fr lc) {x y : Int32} {off : Int} (hdg : decode cc pc = .ok (.if_icmp .ge off, 3)) (hpc : pc + 3 = pc') (ht : (pc : Int) + off = (tgt : Int)) (kt : y ≤ x → zG Z w tgt lv st F) (kf : ¬ y ≤ x → zG Z w pc' lv st F) : zG Z w pc lv (.int y :: .int x :: st) F := by
  subst hpc; exact fun H locs ls hP hD hS hl => lv_icmp_ge K.1 K.2.1 hdg ht (fun q => kt q H locs ls hP hD hS hl) (fun q => kf q H locs ls hP hD hS hl)
/-- a loop's test between small numbers -/
theorem z_icmp_geN (pc pc' tgt : Nat) (K : zok Z own cc nL tys fr lc) (a b : Nat) {x y : Int32} {off : Int} (hx : x = nI a) (hy : y = nI b) (ha : a < 2 ^ 31) (hb : b < 2 ^ 31) (hdg : decode cc pc = .ok (.if_icmp .ge off, 3)) (hpc : pc + 3 = pc') (ht : (pc : Int) + off = (tgt : Int)) (kt : b ≤ a → zG Z w tgt lv st F) (kf : a < b → zG Z w pc' lv st F) : zG Z w pc lv (.int y :: .int x :: st) F := by
  refine z_icmp_ge pc pc' tgt K hdg hpc ht (fun q => kt ?_) (fun q => kf ?_)
  · rw [hx, hy] at q
    exact (nI_leI hb ha).mp q
  · rw [hx, hy] at q
    exact Nat.not_le.mp (fun z => q ((nI_leI hb ha).mpr z))
theorem z_get (pc pc' : Nat) (K : zok Z own cc nL tys fr lc) (q0 ci k : Nat) {index : Nat} {C ref : String} {T : u_T} {N : Nat} {a : Nat} {fs : List Value} {v : Value} (hin : ∀ w ∈ u_ws C T N, w ∈ lw_all) (he : (w F)[q0]? = some (a, .inr (ci, fs))) (hc : vwCl[ci]? = some (C, T, N)) (hk : k < N) (hlink : Cond.fieldLink own index ref (T k).2.1 (T k).2.2.1 ∈ lw_all) (href : (T k).1 = ref) (hv : fs[k]? = some v) (hdg : decode cc pc = .ok (.getfield index, 3)) (hpc : pc + 3 = pc') (h : zG Z w pc' lv (v :: st) F) : zG Z w pc lv (.ref a :: st) F := by
  subst hpc; subst href
  exact fun H locs ls hP hD hS hl => va_get K.1 K.2.1 K.2.2.2.2.2.1 hin K.2.2.2.2.1 K.2.2.2.2.2.2.2.1 hP q0 he hc k hk (K.2.2.2.2.2.1 _ hlink) (fun _ h9 => h9) hv hdg (h H locs ls hP hD hS hl)
theorem z_put (pc pc' : Nat) (K : zok Z own cc nL tys fr lc) (q0 ci k : Nat) {index : Nat} {C ref : String} {T : u_T} {N : Nat} {a : Nat} {fs : List Value} {v : Value} {ty0 : Nat → FieldType} {ty : FieldType} (F' : σ) (hin : ∀ w ∈ u_ws C T N, w ∈ lw_all) (hty : ∀ k, k < N → parseFieldDescriptor (T k).2.2.1 = some (ty0 k)) (hnm : ∀ a, a < N → ∀ b, b < N → a ≠ b → (T a).2.1 ≠ (T b).2.1) (he : (w F)[q0]? = some (a, .inr (ci, fs))) (hc : vwCl[ci]? = some (C, T, N)) (hk : k < N) (hlink : Cond.fieldLink own index ref (T k).2.1 (T k).2.2.1 ∈ lw_all) (href : (T k).1 = ref) (hfin : (T k).2.2.2 = false) (hd : parseFieldDescriptor (T k).2.2.1 = some ty) (hn : narrow ty v = v) (hfit : fits ty v = true) (hl9 : k < fs.length) (hw : (w F).set q0 (a, .inr (ci, fs.set k v)) = w F') (hdg : decode cc pc = .ok (.putfield index, 3)) (hpc : pc + 3 = pc') (h : zG Z w pc' lv st F') : zG Z w pc lv (v :: .ref a :: st) F := by
  subst hpc; subst href
  exact fun H locs ls hP hD hS hl => va_put K.1 K.2.1 K.2.2.2.2.2.1 hin ty0 hty hnm K.2.2.2.2.1 K.2.2.2.2.2.2.2.1 hP hD hS q0 he hc k hk (K.2.2.2.2.2.1 _ hlink) (fun _ h9 => h9) hfin hd hn hfit hl9 hdg (fun H1 locs1 hP1 hD1 hS1 => h H1 locs1 ls (by rw [← hw]; exact hP1) (by rw [← hw]; exact hD1) hS1 hl)
theorem z_iald (pc pc' : Nat) (K : zok Z own cc nL tys fr lc) (q0 t0 : Nat) {a : Nat} {cA : ClassId} {n : Nat} {f : Nat → Int32} {i : Int32} (ha : (w F)[q0]? = some (a, .inl (cA, n, .inl f))) (ht : tys[t0]? = some (cA, .int)) (hin : vp_in i n) (hdg : decode cc pc = .ok (.iaload, 1)) (hpc : pc + 1 = pc') (h : zG Z w pc' lv (.int (f i.toNatClampNeg) :: st) F) : zG Z w pc lv (.int i :: .ref a :: st) F := by
  subst hpc; exact fun H locs ls hP hD hS hl => va_iald K.1 K.2.1 K.2.2.2.2.2.2.2.1 hP q0 t0 ha ht hin hdg (h H locs ls hP hD hS hl)
theorem z_zald (pc pc' : Nat) (K : zok Z own cc nL tys fr lc) (q0 t0 : Nat) {a : Nat} {cA : ClassId} {n : Nat} {f : Nat → Int32} {i : Int32} (ha : (w F)[q0]? = some (a, .inl (cA, n, .inl f))) (ht : tys[t0]? = some (cA, .boolean)) (hin : vp_in i n) (hdg : decode cc pc = .ok (.baload, 1)) (hpc : pc + 1 = pc') (h : zG Z w pc' lv (.int (f i.toNatClampNeg) :: st) F) : zG Z w pc lv (.int i :: .ref a :: st) F := by
  subst hpc; exact fun H locs ls hP hD hS hl => va_zald K.1 K.2.1 K.2.2.2.2.2.2.2.1 hP q0 t0 ha ht hin hdg (h H locs ls hP hD hS hl)
theorem z_iast (pc pc' : Nat) (K : zok Z own cc nL tys fr lc) (q0 t0 : Nat) {a : Nat} {cA : ClassId} {n : Nat} {f : Nat → Int32} {i x : Int32} (F' : σ) (ha : (w F)[q0]? = some (a, .inl (cA, n, .inl f))) (ht : tys[t0]? = some (cA, .int)) (hin : vp_in i n) (hw : (w F).set q0 (a, .inl (cA, n, .inl (upd f i.toNatClampNeg x))) = w F') (hdg : decode cc pc = .ok (.iastore, 1)) (hpc : pc + 1 = pc') (h : zG Z w pc' lv st F') : zG Z w pc lv (.int x :: .int i :: .ref a :: st) F := by
  subst hpc; exact fun H locs ls hP hD hS hl => va_iast K.1 K.2.1 K.2.2.2.2.2.2.2.1 hP hD hS q0 t0 ha ht hin hdg (fun H1 locs1 hP1 hD1 hS1 => h H1 locs1 ls (by rw [← hw]; exact hP1) (by rw [← hw]; exact hD1) hS1 hl)
theorem z_zast (pc pc' : Nat) (K : zok Z own cc nL tys fr lc) (q0 t0 : Nat) {a : Nat} {cA : ClassId} {n : Nat} {f : Nat → Int32} {i x : Int32} (F' : σ) (ha : (w F)[q0]? = some (a, .inl (cA, n, .inl f))) (ht : tys[t0]? = some (cA, .boolean)) (hin : vp_in i n) (hw : (w F).set q0 (a, .inl (cA, n, .inl (upd f i.toNatClampNeg (vp_nar .boolean x)))) = w F') (hdg : decode cc pc = .ok (.bastore, 1)) (hpc : pc + 1 = pc') (h : zG Z w pc' lv st F') : zG Z w pc lv (.int x :: .int i :: .ref a :: st) F := by
  subst hpc; exact fun H locs ls hP hD hS hl => va_zast K.1 K.2.1 K.2.2.2.2.2.2.2.1 hP hD hS q0 t0 ha ht hin hdg (fun H1 locs1 hP1 hD1 hS1 => h H1 locs1 ls (by rw [← hw]; exact hP1) (by rw [← hw]; exact hD1) hS1 hl)
theorem z_free {A0 : Nat → Prop} {ws : va_W} {H0 H : Heap} {locs : List Loc} (hD : va_D A0 ws) (hS : va_S A0 H0 H locs) (hA : ∀ q : Nat, H0.size ≤ q → A0 q) : ∀ q : Nat, va_A ws H.size q → A0 q := by
  intro q h
  rcases h with ⟨k, e, h⟩ | h
  · exact hD.2 k (q, e) h
  · exact hA q (Nat.le_trans hS.1 h)
theorem z_calli {post : Int32 → σ → Prop} {y : MethodName} {cc' : ByteArray} {nL' fr' lc' idx ci : Nat} {ty : FieldType} {av rest : List Value} {h0 : Nat} {fs : List Value} {q : vw_C} (pc pc' n : Nat) (K : zok Z own cc nL tys fr lc) (M : MI (zl Z) y cc' nL' ty fr' lc' (zD Z) tys w (.ref h0 :: av) F post) (hG : GoodIn lw_all (wsV own idx y.cls y (ws_ y cc' nL' (some ty)))) (hd : y.cls = q.1 ∧ y.cls ≠ "java/lang/invoke/MethodHandle" ∧ y.cls ≠ "java/lang/invoke/VarHandle" ∧ (parseMethodDescriptor y.desc).map (fun d => d.parameters.length) = some n) (hR : fr' + 1 ≤ fr ∧ 8 + (nL' + 11) + lc' ≤ lc) (hc : vwCl[ci]? = some q) (he : (w F)[0]? = some (h0, .inr (ci, fs))) (hn : av.length = n) (hst : st = av.reverse ++ .ref h0 :: rest) (hrm : (rest.map fun v => v.category).sum ≤ 8) (hdg : decode cc pc = .ok (.invokevirtual idx, 3)) (hpc : pc + 3 = pc')
    (h : ∀ (r : Int32) (F' : σ), post r F' → zG Z w pc' lv (.int r :: rest) F') : zG Z w pc lv st F := by
  subst hpc; subst hst
  intro H locs ls hP hD hS hl
  obtain ⟨hx, hb, hzn, hml, hown, hts, hlk, hK, hA, hfr, hlc, hce, hsl⟩ := K
  have hFc := z_free hD hS hA
  refine va_calli (va_runV (As := av) (rest := rest) (C := q.1) (mc := 0) (ms := 0) (Ts := lw_all) ⟨hx, hb, hml, hown, hts⟩ (M H.size) (cwV n hts (by rw [← hd.1]; exact hG) rfl rfl rfl hd ⟨by rw [hfr]; exact hR.1, by rw [hlc]; exact hR.2⟩) ⟨fun a U g mk q => by obtain ⟨q0, q1, qP, qK, qD⟩ := q; exact ⟨q0, q1, qP, va_K.moved (u := U) (U := U.calling g mk a) (Vm.Alike.refl U.vm) qK, qD⟩, va_recv hK hP hc he, fun U hU hW => ⟨rfl, by rw [hU], by rw [hU]; exact hP, va_K.moved hW.alike hK, hD.weaken (fun _ _ _ _ => trivial)⟩⟩ rfl hn (hl.1.trans hzn) rfl (lv_room hrm) hdg ⟨hce, hsl⟩) hS (fun q _ h => hFc q h) hFc (fun r F' t H1 locs1 ht hvm hp hB hz1 hk1 hS1 => ?_)
  obtain ⟨hP1, hK1, hD1⟩ := hB
  rw [ht] at hP1
  exact h r F' hp H1 locs1 ls hP1 (hD1.weaken (fun k q _ h => hFc q.1 h)) hS1 hl
theorem z_callv {post : σ → Prop} {y : MethodName} {cc' : ByteArray} {nL' fr' lc' idx ci : Nat} {av rest : List Value} {h0 : Nat} {fs : List Value} {q : vw_C} (pc pc' n : Nat) (K : zok Z own cc nL tys fr lc) (M : MV (zl Z) y cc' nL' fr' lc' (zD Z) tys w (.ref h0 :: av) F post) (hG : GoodIn lw_all (wsV own idx y.cls y (ws_ y cc' nL' none))) (hd : y.cls = q.1 ∧ y.cls ≠ "java/lang/invoke/MethodHandle" ∧ y.cls ≠ "java/lang/invoke/VarHandle" ∧ (parseMethodDescriptor y.desc).map (fun d => d.parameters.length) = some n) (hR : fr' + 1 ≤ fr ∧ 8 + (nL' + 11) + lc' ≤ lc) (hc : vwCl[ci]? = some q) (he : (w F)[0]? = some (h0, .inr (ci, fs))) (hn : av.length = n) (hst : st = av.reverse ++ .ref h0 :: rest) (hrm : (rest.map fun v => v.category).sum ≤ 8) (hdg : decode cc pc = .ok (.invokevirtual idx, 3)) (hpc : pc + 3 = pc')
    (h : ∀ (F' : σ), post F' → zG Z w pc' lv rest F') : zG Z w pc lv st F := by
  subst hpc; subst hst
  intro H locs ls hP hD hS hl
  obtain ⟨hx, hb, hzn, hml, hown, hts, hlk, hK, hA, hfr, hlc, hce, hsl⟩ := K
  have hFc := z_free hD hS hA
  refine va_callv (va_runV (As := av) (rest := rest) (C := q.1) (mc := 0) (ms := 0) (Ts := lw_all) ⟨hx, hb, hml, hown, hts⟩ (M H.size) (cwV n hts (by rw [← hd.1]; exact hG) rfl rfl rfl hd ⟨by rw [hfr]; exact hR.1, by rw [hlc]; exact hR.2⟩) ⟨fun a U g mk q => by obtain ⟨q0, q1, qP, qK, qD⟩ := q; exact ⟨q0, q1, qP, va_K.moved (u := U) (U := U.calling g mk a) (Vm.Alike.refl U.vm) qK, qD⟩, va_recv hK hP hc he, fun U hU hW => ⟨rfl, by rw [hU], by rw [hU]; exact hP, va_K.moved hW.alike hK, hD.weaken (fun _ _ _ _ => trivial)⟩⟩ rfl hn (hl.1.trans hzn) rfl (lv_room hrm) hdg ⟨hce, hsl⟩) hS (fun q _ h => hFc q h) hFc (fun F' t H1 locs1 ht hvm hp hB hz1 hk1 hS1 => ?_)
  obtain ⟨hP1, hK1, hD1⟩ := hB
  rw [ht] at hP1
  exact h F' hp H1 locs1 ls hP1 (hD1.weaken (fun k q _ h => hFc q.1 h)) hS1 hl
end ZR
end
section
/-! worlds and rules (printed by mkrules.py) -/
set_option maxRecDepth 100000
/-- array (or scalar) k of a state replaced -/
def zput (F : Nat → Nat → Int32) (k : Nat) (g : Nat → Int32) : Nat → Nat → Int32 := fun k2 => bif Nat.beq k2 k then g else F k2
theorem zput_s (F : Nat → Nat → Int32) (k : Nat) (g : Nat → Int32) : zput F k g k = g := by simp [zput]
theorem zput_n (F : Nat → Nat → Int32) {k k2 : Nat} (g : Nat → Int32) (h : k2 ≠ k) : zput F k g k2 = F k2 := by
  have : Nat.beq k2 k = false := by
    cases hb : Nat.beq k2 k with
    | false => rfl
    | true => exact absurd (Nat.eq_of_beq_eq_true hb) h
  simp [zput, this]
def wX (h0 : Nat) (ad : Nat → Nat) (cs : Nat → ClassId) (F : Nat → Nat → Int32) : va_W := [(h0, .inr (0, [.int (F 0 0), .ref (ad 1), .ref (ad 2), .ref (ad 3), .ref (ad 4), .ref (ad 5), .ref (ad 6), .ref (ad 7), .ref (ad 8), .int (F 9 0), .int (F 10 0), .ref (ad 11), .ref (ad 12), .ref (ad 13), .ref (ad 14), .int (F 15 0), .ref (ad 16), .ref (ad 17), .ref (ad 18), .ref (ad 19), .int (F 20 0), .ref (ad 21), .ref (ad 22)])), (ad 1, .inl (cs 1, 14, .inl (F 1))), (ad 2, .inl (cs 2, 14, .inl (F 2))), (ad 3, .inl (cs 3, 14, .inl (F 3))), (ad 4, .inl (cs 4, 14, .inl (F 4))), (ad 5, .inl (cs 5, 14, .inl (F 5))), (ad 6, .inl (cs 6, 8, .inl (F 6))), (ad 7, .inl (cs 7, 16, .inl (F 7))), (ad 8, .inl (cs 8, 16, .inl (F 8))), (ad 11, .inl (cs 11, 28, .inl (F 11))), (ad 12, .inl (cs 12, 28, .inl (F 12))), (ad 13, .inl (cs 13, 28, .inl (F 13))), (ad 14, .inl (cs 14, 28, .inl (F 14))), (ad 16, .inl (cs 16, 28, .inl (F 16))), (ad 17, .inl (cs 17, 14, .inl (F 17))), (ad 18, .inl (cs 18, 14, .inl (F 18))), (ad 19, .inl (cs 19, 14, .inl (F 19))), (ad 21, .inl (cs 21, 4, .inl (F 21))), (ad 22, .inl (cs 22, 4, .inl (F 22)))]
def tyX (cs : Nat → ClassId) : List (ClassId × FieldType) := [(cs 1, .int), (cs 2, .int), (cs 3, .int), (cs 4, .int), (cs 5, .int), (cs 6, .int), (cs 7, .int), (cs 8, .boolean), (cs 11, .boolean), (cs 12, .int), (cs 13, .int), (cs 14, .int), (cs 16, .int), (cs 17, .int), (cs 18, .int), (cs 19, .boolean), (cs 21, .int), (cs 22, .int)]
section Rx
variable {Z : zz_T} {cc : ByteArray} {nL fr lc : Nat} {lv : List (Nat × Value)} {st : List Value} {F : Nat → Nat → Int32} {h0 : Nat} {ad : Nat → Nat} {cs : Nat → ClassId}
theorem xg_0 (pc pc' : Nat) (K : zok Z RX0 cc nL (tyX cs) fr lc) (hdg : decode cc pc = .ok (.getfield 69, 3)) (hpc : pc + 3 = pc') (h : zG Z (wX h0 ad cs) pc' lv (.int (F 0 0) :: st) F) : zG Z (wX h0 ad cs) pc lv (.ref h0 :: st) F := z_get pc pc' K 0 0 0 (C := RX0) (T := TX0) (N := 23) in_X0 rfl rfl (by decide) q38 rfl rfl hdg hpc h
theorem xp_0 (pc pc' : Nat) (K : zok Z RX0 cc nL (tyX cs) fr lc) {x : Int32} (hdg : decode cc pc = .ok (.putfield 69, 3)) (hpc : pc + 3 = pc') (h : zG Z (wX h0 ad cs) pc' lv st (zput F 0 (fun _ => x))) : zG Z (wX h0 ad cs) pc lv (.int x :: .ref h0 :: st) F := z_put pc pc' K 0 0 0 (C := RX0) (T := TX0) (N := 23) (ty := .int) (zput F 0 (fun _ => x)) in_X0 tyX0_ok nmX0 rfl rfl (by decide) q38 rfl rfl (by decide +kernel) rfl rfl (Nat.le_of_ble_eq_true rfl) rfl hdg hpc h
theorem xg_1 (pc pc' : Nat) (K : zok Z RX0 cc nL (tyX cs) fr lc) (hdg : decode cc pc = .ok (.getfield 7, 3)) (hpc : pc + 3 = pc') (h : zG Z (wX h0 ad cs) pc' lv (.ref (ad 1) :: st) F) : zG Z (wX h0 ad cs) pc lv (.ref h0 :: st) F := z_get pc pc' K 0 0 1 (C := RX0) (T := TX0) (N := 23) in_X0 rfl rfl (by decide) q39 rfl rfl hdg hpc h
theorem xL_1 (pc pc' : Nat) (K : zok Z RX0 cc nL (tyX cs) fr lc) {i : Int32} (hin : vp_in i 14) (hdg : decode cc pc = .ok (.iaload, 1)) (hpc : pc + 1 = pc') (h : zG Z (wX h0 ad cs) pc' lv (.int (F 1 i.toNatClampNeg) :: st) F) : zG Z (wX h0 ad cs) pc lv (.int i :: .ref (ad 1) :: st) F := z_iald pc pc' K 1 0 rfl rfl hin hdg hpc h
theorem xl_1 (pc pc' : Nat) (K : zok Z RX0 cc nL (tyX cs) fr lc) (j : Nat) {i : Int32} (hi : i = nI j) (hj : j < 14) (hdg : decode cc pc = .ok (.iaload, 1)) (hpc : pc + 1 = pc') (h : zG Z (wX h0 ad cs) pc' lv (.int (F 1 j) :: st) F) : zG Z (wX h0 ad cs) pc lv (.int i :: .ref (ad 1) :: st) F := by
  subst hi
  refine xL_1 pc pc' K (vp_in_nI hj (by decide)) hdg hpc ?_
  rw [nI_clamp (by omega)]
  exact h
theorem xS_1 (pc pc' : Nat) (K : zok Z RX0 cc nL (tyX cs) fr lc) {i x : Int32} (hin : vp_in i 14) (hdg : decode cc pc = .ok (.iastore, 1)) (hpc : pc + 1 = pc') (h : zG Z (wX h0 ad cs) pc' lv st (zput F 1 (upd (F 1) i.toNatClampNeg x))) : zG Z (wX h0 ad cs) pc lv (.int x :: .int i :: .ref (ad 1) :: st) F := z_iast pc pc' K 1 0 _ rfl rfl hin rfl hdg hpc h
theorem xs_1 (pc pc' : Nat) (K : zok Z RX0 cc nL (tyX cs) fr lc) (j : Nat) {i x : Int32} (hi : i = nI j) (hj : j < 14) (hdg : decode cc pc = .ok (.iastore, 1)) (hpc : pc + 1 = pc') (h : zG Z (wX h0 ad cs) pc' lv st (zput F 1 (upd (F 1) j x))) : zG Z (wX h0 ad cs) pc lv (.int x :: .int i :: .ref (ad 1) :: st) F := by
  subst hi
  refine xS_1 pc pc' K (vp_in_nI hj (by decide)) hdg hpc ?_
  rw [nI_clamp (by omega)]
  exact h
theorem xg_2 (pc pc' : Nat) (K : zok Z RX0 cc nL (tyX cs) fr lc) (hdg : decode cc pc = .ok (.getfield 13, 3)) (hpc : pc + 3 = pc') (h : zG Z (wX h0 ad cs) pc' lv (.ref (ad 2) :: st) F) : zG Z (wX h0 ad cs) pc lv (.ref h0 :: st) F := z_get pc pc' K 0 0 2 (C := RX0) (T := TX0) (N := 23) in_X0 rfl rfl (by decide) q40 rfl rfl hdg hpc h
theorem xL_2 (pc pc' : Nat) (K : zok Z RX0 cc nL (tyX cs) fr lc) {i : Int32} (hin : vp_in i 14) (hdg : decode cc pc = .ok (.iaload, 1)) (hpc : pc + 1 = pc') (h : zG Z (wX h0 ad cs) pc' lv (.int (F 2 i.toNatClampNeg) :: st) F) : zG Z (wX h0 ad cs) pc lv (.int i :: .ref (ad 2) :: st) F := z_iald pc pc' K 2 1 rfl rfl hin hdg hpc h
theorem xl_2 (pc pc' : Nat) (K : zok Z RX0 cc nL (tyX cs) fr lc) (j : Nat) {i : Int32} (hi : i = nI j) (hj : j < 14) (hdg : decode cc pc = .ok (.iaload, 1)) (hpc : pc + 1 = pc') (h : zG Z (wX h0 ad cs) pc' lv (.int (F 2 j) :: st) F) : zG Z (wX h0 ad cs) pc lv (.int i :: .ref (ad 2) :: st) F := by
  subst hi
  refine xL_2 pc pc' K (vp_in_nI hj (by decide)) hdg hpc ?_
  rw [nI_clamp (by omega)]
  exact h
theorem xS_2 (pc pc' : Nat) (K : zok Z RX0 cc nL (tyX cs) fr lc) {i x : Int32} (hin : vp_in i 14) (hdg : decode cc pc = .ok (.iastore, 1)) (hpc : pc + 1 = pc') (h : zG Z (wX h0 ad cs) pc' lv st (zput F 2 (upd (F 2) i.toNatClampNeg x))) : zG Z (wX h0 ad cs) pc lv (.int x :: .int i :: .ref (ad 2) :: st) F := z_iast pc pc' K 2 1 _ rfl rfl hin rfl hdg hpc h
theorem xs_2 (pc pc' : Nat) (K : zok Z RX0 cc nL (tyX cs) fr lc) (j : Nat) {i x : Int32} (hi : i = nI j) (hj : j < 14) (hdg : decode cc pc = .ok (.iastore, 1)) (hpc : pc + 1 = pc') (h : zG Z (wX h0 ad cs) pc' lv st (zput F 2 (upd (F 2) j x))) : zG Z (wX h0 ad cs) pc lv (.int x :: .int i :: .ref (ad 2) :: st) F := by
  subst hi
  refine xS_2 pc pc' K (vp_in_nI hj (by decide)) hdg hpc ?_
  rw [nI_clamp (by omega)]
  exact h
theorem xg_3 (pc pc' : Nat) (K : zok Z RX0 cc nL (tyX cs) fr lc) (hdg : decode cc pc = .ok (.getfield 16, 3)) (hpc : pc + 3 = pc') (h : zG Z (wX h0 ad cs) pc' lv (.ref (ad 3) :: st) F) : zG Z (wX h0 ad cs) pc lv (.ref h0 :: st) F := z_get pc pc' K 0 0 3 (C := RX0) (T := TX0) (N := 23) in_X0 rfl rfl (by decide) q41 rfl rfl hdg hpc h
theorem xL_3 (pc pc' : Nat) (K : zok Z RX0 cc nL (tyX cs) fr lc) {i : Int32} (hin : vp_in i 14) (hdg : decode cc pc = .ok (.iaload, 1)) (hpc : pc + 1 = pc') (h : zG Z (wX h0 ad cs) pc' lv (.int (F 3 i.toNatClampNeg) :: st) F) : zG Z (wX h0 ad cs) pc lv (.int i :: .ref (ad 3) :: st) F := z_iald pc pc' K 3 2 rfl rfl hin hdg hpc h
theorem xl_3 (pc pc' : Nat) (K : zok Z RX0 cc nL (tyX cs) fr lc) (j : Nat) {i : Int32} (hi : i = nI j) (hj : j < 14) (hdg : decode cc pc = .ok (.iaload, 1)) (hpc : pc + 1 = pc') (h : zG Z (wX h0 ad cs) pc' lv (.int (F 3 j) :: st) F) : zG Z (wX h0 ad cs) pc lv (.int i :: .ref (ad 3) :: st) F := by
  subst hi
  refine xL_3 pc pc' K (vp_in_nI hj (by decide)) hdg hpc ?_
  rw [nI_clamp (by omega)]
  exact h
theorem xS_3 (pc pc' : Nat) (K : zok Z RX0 cc nL (tyX cs) fr lc) {i x : Int32} (hin : vp_in i 14) (hdg : decode cc pc = .ok (.iastore, 1)) (hpc : pc + 1 = pc') (h : zG Z (wX h0 ad cs) pc' lv st (zput F 3 (upd (F 3) i.toNatClampNeg x))) : zG Z (wX h0 ad cs) pc lv (.int x :: .int i :: .ref (ad 3) :: st) F := z_iast pc pc' K 3 2 _ rfl rfl hin rfl hdg hpc h
theorem xs_3 (pc pc' : Nat) (K : zok Z RX0 cc nL (tyX cs) fr lc) (j : Nat) {i x : Int32} (hi : i = nI j) (hj : j < 14) (hdg : decode cc pc = .ok (.iastore, 1)) (hpc : pc + 1 = pc') (h : zG Z (wX h0 ad cs) pc' lv st (zput F 3 (upd (F 3) j x))) : zG Z (wX h0 ad cs) pc lv (.int x :: .int i :: .ref (ad 3) :: st) F := by
  subst hi
  refine xS_3 pc pc' K (vp_in_nI hj (by decide)) hdg hpc ?_
  rw [nI_clamp (by omega)]
  exact h
theorem xg_4 (pc pc' : Nat) (K : zok Z RX0 cc nL (tyX cs) fr lc) (hdg : decode cc pc = .ok (.getfield 19, 3)) (hpc : pc + 3 = pc') (h : zG Z (wX h0 ad cs) pc' lv (.ref (ad 4) :: st) F) : zG Z (wX h0 ad cs) pc lv (.ref h0 :: st) F := z_get pc pc' K 0 0 4 (C := RX0) (T := TX0) (N := 23) in_X0 rfl rfl (by decide) q42 rfl rfl hdg hpc h
theorem xL_4 (pc pc' : Nat) (K : zok Z RX0 cc nL (tyX cs) fr lc) {i : Int32} (hin : vp_in i 14) (hdg : decode cc pc = .ok (.iaload, 1)) (hpc : pc + 1 = pc') (h : zG Z (wX h0 ad cs) pc' lv (.int (F 4 i.toNatClampNeg) :: st) F) : zG Z (wX h0 ad cs) pc lv (.int i :: .ref (ad 4) :: st) F := z_iald pc pc' K 4 3 rfl rfl hin hdg hpc h
theorem xl_4 (pc pc' : Nat) (K : zok Z RX0 cc nL (tyX cs) fr lc) (j : Nat) {i : Int32} (hi : i = nI j) (hj : j < 14) (hdg : decode cc pc = .ok (.iaload, 1)) (hpc : pc + 1 = pc') (h : zG Z (wX h0 ad cs) pc' lv (.int (F 4 j) :: st) F) : zG Z (wX h0 ad cs) pc lv (.int i :: .ref (ad 4) :: st) F := by
  subst hi
  refine xL_4 pc pc' K (vp_in_nI hj (by decide)) hdg hpc ?_
  rw [nI_clamp (by omega)]
  exact h
theorem xS_4 (pc pc' : Nat) (K : zok Z RX0 cc nL (tyX cs) fr lc) {i x : Int32} (hin : vp_in i 14) (hdg : decode cc pc = .ok (.iastore, 1)) (hpc : pc + 1 = pc') (h : zG Z (wX h0 ad cs) pc' lv st (zput F 4 (upd (F 4) i.toNatClampNeg x))) : zG Z (wX h0 ad cs) pc lv (.int x :: .int i :: .ref (ad 4) :: st) F := z_iast pc pc' K 4 3 _ rfl rfl hin rfl hdg hpc h
theorem xs_4 (pc pc' : Nat) (K : zok Z RX0 cc nL (tyX cs) fr lc) (j : Nat) {i x : Int32} (hi : i = nI j) (hj : j < 14) (hdg : decode cc pc = .ok (.iastore, 1)) (hpc : pc + 1 = pc') (h : zG Z (wX h0 ad cs) pc' lv st (zput F 4 (upd (F 4) j x))) : zG Z (wX h0 ad cs) pc lv (.int x :: .int i :: .ref (ad 4) :: st) F := by
  subst hi
  refine xS_4 pc pc' K (vp_in_nI hj (by decide)) hdg hpc ?_
  rw [nI_clamp (by omega)]
  exact h
theorem xg_5 (pc pc' : Nat) (K : zok Z RX0 cc nL (tyX cs) fr lc) (hdg : decode cc pc = .ok (.getfield 22, 3)) (hpc : pc + 3 = pc') (h : zG Z (wX h0 ad cs) pc' lv (.ref (ad 5) :: st) F) : zG Z (wX h0 ad cs) pc lv (.ref h0 :: st) F := z_get pc pc' K 0 0 5 (C := RX0) (T := TX0) (N := 23) in_X0 rfl rfl (by decide) q43 rfl rfl hdg hpc h
theorem xL_5 (pc pc' : Nat) (K : zok Z RX0 cc nL (tyX cs) fr lc) {i : Int32} (hin : vp_in i 14) (hdg : decode cc pc = .ok (.iaload, 1)) (hpc : pc + 1 = pc') (h : zG Z (wX h0 ad cs) pc' lv (.int (F 5 i.toNatClampNeg) :: st) F) : zG Z (wX h0 ad cs) pc lv (.int i :: .ref (ad 5) :: st) F := z_iald pc pc' K 5 4 rfl rfl hin hdg hpc h
theorem xl_5 (pc pc' : Nat) (K : zok Z RX0 cc nL (tyX cs) fr lc) (j : Nat) {i : Int32} (hi : i = nI j) (hj : j < 14) (hdg : decode cc pc = .ok (.iaload, 1)) (hpc : pc + 1 = pc') (h : zG Z (wX h0 ad cs) pc' lv (.int (F 5 j) :: st) F) : zG Z (wX h0 ad cs) pc lv (.int i :: .ref (ad 5) :: st) F := by
  subst hi
  refine xL_5 pc pc' K (vp_in_nI hj (by decide)) hdg hpc ?_
  rw [nI_clamp (by omega)]
  exact h
theorem xS_5 (pc pc' : Nat) (K : zok Z RX0 cc nL (tyX cs) fr lc) {i x : Int32} (hin : vp_in i 14) (hdg : decode cc pc = .ok (.iastore, 1)) (hpc : pc + 1 = pc') (h : zG Z (wX h0 ad cs) pc' lv st (zput F 5 (upd (F 5) i.toNatClampNeg x))) : zG Z (wX h0 ad cs) pc lv (.int x :: .int i :: .ref (ad 5) :: st) F := z_iast pc pc' K 5 4 _ rfl rfl hin rfl hdg hpc h
theorem xs_5 (pc pc' : Nat) (K : zok Z RX0 cc nL (tyX cs) fr lc) (j : Nat) {i x : Int32} (hi : i = nI j) (hj : j < 14) (hdg : decode cc pc = .ok (.iastore, 1)) (hpc : pc + 1 = pc') (h : zG Z (wX h0 ad cs) pc' lv st (zput F 5 (upd (F 5) j x))) : zG Z (wX h0 ad cs) pc lv (.int x :: .int i :: .ref (ad 5) :: st) F := by
  subst hi
  refine xS_5 pc pc' K (vp_in_nI hj (by decide)) hdg hpc ?_
  rw [nI_clamp (by omega)]
  exact h
theorem xg_6 (pc pc' : Nat) (K : zok Z RX0 cc nL (tyX cs) fr lc) (hdg : decode cc pc = .ok (.getfield 25, 3)) (hpc : pc + 3 = pc') (h : zG Z (wX h0 ad cs) pc' lv (.ref (ad 6) :: st) F) : zG Z (wX h0 ad cs) pc lv (.ref h0 :: st) F := z_get pc pc' K 0 0 6 (C := RX0) (T := TX0) (N := 23) in_X0 rfl rfl (by decide) q44 rfl rfl hdg hpc h
theorem xL_6 (pc pc' : Nat) (K : zok Z RX0 cc nL (tyX cs) fr lc) {i : Int32} (hin : vp_in i 8) (hdg : decode cc pc = .ok (.iaload, 1)) (hpc : pc + 1 = pc') (h : zG Z (wX h0 ad cs) pc' lv (.int (F 6 i.toNatClampNeg) :: st) F) : zG Z (wX h0 ad cs) pc lv (.int i :: .ref (ad 6) :: st) F := z_iald pc pc' K 6 5 rfl rfl hin hdg hpc h
theorem xl_6 (pc pc' : Nat) (K : zok Z RX0 cc nL (tyX cs) fr lc) (j : Nat) {i : Int32} (hi : i = nI j) (hj : j < 8) (hdg : decode cc pc = .ok (.iaload, 1)) (hpc : pc + 1 = pc') (h : zG Z (wX h0 ad cs) pc' lv (.int (F 6 j) :: st) F) : zG Z (wX h0 ad cs) pc lv (.int i :: .ref (ad 6) :: st) F := by
  subst hi
  refine xL_6 pc pc' K (vp_in_nI hj (by decide)) hdg hpc ?_
  rw [nI_clamp (by omega)]
  exact h
theorem xS_6 (pc pc' : Nat) (K : zok Z RX0 cc nL (tyX cs) fr lc) {i x : Int32} (hin : vp_in i 8) (hdg : decode cc pc = .ok (.iastore, 1)) (hpc : pc + 1 = pc') (h : zG Z (wX h0 ad cs) pc' lv st (zput F 6 (upd (F 6) i.toNatClampNeg x))) : zG Z (wX h0 ad cs) pc lv (.int x :: .int i :: .ref (ad 6) :: st) F := z_iast pc pc' K 6 5 _ rfl rfl hin rfl hdg hpc h
theorem xs_6 (pc pc' : Nat) (K : zok Z RX0 cc nL (tyX cs) fr lc) (j : Nat) {i x : Int32} (hi : i = nI j) (hj : j < 8) (hdg : decode cc pc = .ok (.iastore, 1)) (hpc : pc + 1 = pc') (h : zG Z (wX h0 ad cs) pc' lv st (zput F 6 (upd (F 6) j x))) : zG Z (wX h0 ad cs) pc lv (.int x :: .int i :: .ref (ad 6) :: st) F := by
  subst hi
  refine xS_6 pc pc' K (vp_in_nI hj (by decide)) hdg hpc ?_
  rw [nI_clamp (by omega)]
  exact h
theorem xg_7 (pc pc' : Nat) (K : zok Z RX0 cc nL (tyX cs) fr lc) (hdg : decode cc pc = .ok (.getfield 28, 3)) (hpc : pc + 3 = pc') (h : zG Z (wX h0 ad cs) pc' lv (.ref (ad 7) :: st) F) : zG Z (wX h0 ad cs) pc lv (.ref h0 :: st) F := z_get pc pc' K 0 0 7 (C := RX0) (T := TX0) (N := 23) in_X0 rfl rfl (by decide) q45 rfl rfl hdg hpc h
theorem xL_7 (pc pc' : Nat) (K : zok Z RX0 cc nL (tyX cs) fr lc) {i : Int32} (hin : vp_in i 16) (hdg : decode cc pc = .ok (.iaload, 1)) (hpc : pc + 1 = pc') (h : zG Z (wX h0 ad cs) pc' lv (.int (F 7 i.toNatClampNeg) :: st) F) : zG Z (wX h0 ad cs) pc lv (.int i :: .ref (ad 7) :: st) F := z_iald pc pc' K 7 6 rfl rfl hin hdg hpc h
theorem xl_7 (pc pc' : Nat) (K : zok Z RX0 cc nL (tyX cs) fr lc) (j : Nat) {i : Int32} (hi : i = nI j) (hj : j < 16) (hdg : decode cc pc = .ok (.iaload, 1)) (hpc : pc + 1 = pc') (h : zG Z (wX h0 ad cs) pc' lv (.int (F 7 j) :: st) F) : zG Z (wX h0 ad cs) pc lv (.int i :: .ref (ad 7) :: st) F := by
  subst hi
  refine xL_7 pc pc' K (vp_in_nI hj (by decide)) hdg hpc ?_
  rw [nI_clamp (by omega)]
  exact h
theorem xS_7 (pc pc' : Nat) (K : zok Z RX0 cc nL (tyX cs) fr lc) {i x : Int32} (hin : vp_in i 16) (hdg : decode cc pc = .ok (.iastore, 1)) (hpc : pc + 1 = pc') (h : zG Z (wX h0 ad cs) pc' lv st (zput F 7 (upd (F 7) i.toNatClampNeg x))) : zG Z (wX h0 ad cs) pc lv (.int x :: .int i :: .ref (ad 7) :: st) F := z_iast pc pc' K 7 6 _ rfl rfl hin rfl hdg hpc h
theorem xs_7 (pc pc' : Nat) (K : zok Z RX0 cc nL (tyX cs) fr lc) (j : Nat) {i x : Int32} (hi : i = nI j) (hj : j < 16) (hdg : decode cc pc = .ok (.iastore, 1)) (hpc : pc + 1 = pc') (h : zG Z (wX h0 ad cs) pc' lv st (zput F 7 (upd (F 7) j x))) : zG Z (wX h0 ad cs) pc lv (.int x :: .int i :: .ref (ad 7) :: st) F := by
  subst hi
  refine xS_7 pc pc' K (vp_in_nI hj (by decide)) hdg hpc ?_
  rw [nI_clamp (by omega)]
  exact h
theorem xg_8 (pc pc' : Nat) (K : zok Z RX0 cc nL (tyX cs) fr lc) (hdg : decode cc pc = .ok (.getfield 31, 3)) (hpc : pc + 3 = pc') (h : zG Z (wX h0 ad cs) pc' lv (.ref (ad 8) :: st) F) : zG Z (wX h0 ad cs) pc lv (.ref h0 :: st) F := z_get pc pc' K 0 0 8 (C := RX0) (T := TX0) (N := 23) in_X0 rfl rfl (by decide) q46 rfl rfl hdg hpc h
theorem xL_8 (pc pc' : Nat) (K : zok Z RX0 cc nL (tyX cs) fr lc) {i : Int32} (hin : vp_in i 16) (hdg : decode cc pc = .ok (.baload, 1)) (hpc : pc + 1 = pc') (h : zG Z (wX h0 ad cs) pc' lv (.int (F 8 i.toNatClampNeg) :: st) F) : zG Z (wX h0 ad cs) pc lv (.int i :: .ref (ad 8) :: st) F := z_zald pc pc' K 8 7 rfl rfl hin hdg hpc h
theorem xl_8 (pc pc' : Nat) (K : zok Z RX0 cc nL (tyX cs) fr lc) (j : Nat) {i : Int32} (hi : i = nI j) (hj : j < 16) (hdg : decode cc pc = .ok (.baload, 1)) (hpc : pc + 1 = pc') (h : zG Z (wX h0 ad cs) pc' lv (.int (F 8 j) :: st) F) : zG Z (wX h0 ad cs) pc lv (.int i :: .ref (ad 8) :: st) F := by
  subst hi
  refine xL_8 pc pc' K (vp_in_nI hj (by decide)) hdg hpc ?_
  rw [nI_clamp (by omega)]
  exact h
theorem xS_8 (pc pc' : Nat) (K : zok Z RX0 cc nL (tyX cs) fr lc) {i x : Int32} (x' : Int32) (hx : vp_nar .boolean x = x') (hin : vp_in i 16) (hdg : decode cc pc = .ok (.bastore, 1)) (hpc : pc + 1 = pc') (h : zG Z (wX h0 ad cs) pc' lv st (zput F 8 (upd (F 8) i.toNatClampNeg x'))) : zG Z (wX h0 ad cs) pc lv (.int x :: .int i :: .ref (ad 8) :: st) F := by
  subst hx
  exact z_zast pc pc' K 8 7 _ rfl rfl hin rfl hdg hpc h
theorem xs_8 (pc pc' : Nat) (K : zok Z RX0 cc nL (tyX cs) fr lc) (j : Nat) {i x : Int32} (x' : Int32) (hx : vp_nar .boolean x = x') (hi : i = nI j) (hj : j < 16) (hdg : decode cc pc = .ok (.bastore, 1)) (hpc : pc + 1 = pc') (h : zG Z (wX h0 ad cs) pc' lv st (zput F 8 (upd (F 8) j x'))) : zG Z (wX h0 ad cs) pc lv (.int x :: .int i :: .ref (ad 8) :: st) F := by
  subst hi
  refine xS_8 pc pc' K x' hx (vp_in_nI hj (by decide)) hdg hpc ?_
  rw [nI_clamp (by omega)]
  exact h
theorem xg_9 (pc pc' : Nat) (K : zok Z RX0 cc nL (tyX cs) fr lc) (hdg : decode cc pc = .ok (.getfield 65, 3)) (hpc : pc + 3 = pc') (h : zG Z (wX h0 ad cs) pc' lv (.int (F 9 0) :: st) F) : zG Z (wX h0 ad cs) pc lv (.ref h0 :: st) F := z_get pc pc' K 0 0 9 (C := RX0) (T := TX0) (N := 23) in_X0 rfl rfl (by decide) q47 rfl rfl hdg hpc h
theorem xp_9 (pc pc' : Nat) (K : zok Z RX0 cc nL (tyX cs) fr lc) {x : Int32} (hdg : decode cc pc = .ok (.putfield 65, 3)) (hpc : pc + 3 = pc') (h : zG Z (wX h0 ad cs) pc' lv st (zput F 9 (fun _ => x))) : zG Z (wX h0 ad cs) pc lv (.int x :: .ref h0 :: st) F := z_put pc pc' K 0 0 9 (C := RX0) (T := TX0) (N := 23) (ty := .int) (zput F 9 (fun _ => x)) in_X0 tyX0_ok nmX0 rfl rfl (by decide) q47 rfl rfl (by decide +kernel) rfl rfl (Nat.le_of_ble_eq_true rfl) rfl hdg hpc h
theorem xg_10 (pc pc' : Nat) (K : zok Z RX0 cc nL (tyX cs) fr lc) (hdg : decode cc pc = .ok (.getfield 72, 3)) (hpc : pc + 3 = pc') (h : zG Z (wX h0 ad cs) pc' lv (.int (F 10 0) :: st) F) : zG Z (wX h0 ad cs) pc lv (.ref h0 :: st) F := z_get pc pc' K 0 0 10 (C := RX0) (T := TX0) (N := 23) in_X0 rfl rfl (by decide) q48 rfl rfl hdg hpc h
theorem xp_10 (pc pc' : Nat) (K : zok Z RX0 cc nL (tyX cs) fr lc) {x : Int32} (hn : narrow .boolean (.int x) = .int x) (hf : fits .boolean (.int x) = true) (hdg : decode cc pc = .ok (.putfield 72, 3)) (hpc : pc + 3 = pc') (h : zG Z (wX h0 ad cs) pc' lv st (zput F 10 (fun _ => x))) : zG Z (wX h0 ad cs) pc lv (.int x :: .ref h0 :: st) F := z_put pc pc' K 0 0 10 (C := RX0) (T := TX0) (N := 23) (ty := .boolean) (zput F 10 (fun _ => x)) in_X0 tyX0_ok nmX0 rfl rfl (by decide) q48 rfl rfl (by decide +kernel) hn hf (Nat.le_of_ble_eq_true rfl) rfl hdg hpc h
theorem xg_11 (pc pc' : Nat) (K : zok Z RX0 cc nL (tyX cs) fr lc) (hdg : decode cc pc = .ok (.getfield 35, 3)) (hpc : pc + 3 = pc') (h : zG Z (wX h0 ad cs) pc' lv (.ref (ad 11) :: st) F) : zG Z (wX h0 ad cs) pc lv (.ref h0 :: st) F := z_get pc pc' K 0 0 11 (C := RX0) (T := TX0) (N := 23) in_X0 rfl rfl (by decide) q49 rfl rfl hdg hpc h
theorem xL_11 (pc pc' : Nat) (K : zok Z RX0 cc nL (tyX cs) fr lc) {i : Int32} (hin : vp_in i 28) (hdg : decode cc pc = .ok (.baload, 1)) (hpc : pc + 1 = pc') (h : zG Z (wX h0 ad cs) pc' lv (.int (F 11 i.toNatClampNeg) :: st) F) : zG Z (wX h0 ad cs) pc lv (.int i :: .ref (ad 11) :: st) F := z_zald pc pc' K 9 8 rfl rfl hin hdg hpc h
theorem xl_11 (pc pc' : Nat) (K : zok Z RX0 cc nL (tyX cs) fr lc) (j : Nat) {i : Int32} (hi : i = nI j) (hj : j < 28) (hdg : decode cc pc = .ok (.baload, 1)) (hpc : pc + 1 = pc') (h : zG Z (wX h0 ad cs) pc' lv (.int (F 11 j) :: st) F) : zG Z (wX h0 ad cs) pc lv (.int i :: .ref (ad 11) :: st) F := by
  subst hi
  refine xL_11 pc pc' K (vp_in_nI hj (by decide)) hdg hpc ?_
  rw [nI_clamp (by omega)]
  exact h
theorem xS_11 (pc pc' : Nat) (K : zok Z RX0 cc nL (tyX cs) fr lc) {i x : Int32} (x' : Int32) (hx : vp_nar .boolean x = x') (hin : vp_in i 28) (hdg : decode cc pc = .ok (.bastore, 1)) (hpc : pc + 1 = pc') (h : zG Z (wX h0 ad cs) pc' lv st (zput F 11 (upd (F 11) i.toNatClampNeg x'))) : zG Z (wX h0 ad cs) pc lv (.int x :: .int i :: .ref (ad 11) :: st) F := by
  subst hx
  exact z_zast pc pc' K 9 8 _ rfl rfl hin rfl hdg hpc h
theorem xs_11 (pc pc' : Nat) (K : zok Z RX0 cc nL (tyX cs) fr lc) (j : Nat) {i x : Int32} (x' : Int32) (hx : vp_nar .boolean x = x') (hi : i = nI j) (hj : j < 28) (hdg : decode cc pc = .ok (.bastore, 1)) (hpc : pc + 1 = pc') (h : zG Z (wX h0 ad cs) pc' lv st (zput F 11 (upd (F 11) j x'))) : zG Z (wX h0 ad cs) pc lv (.int x :: .int i :: .ref (ad 11) :: st) F := by
  subst hi
  refine xS_11 pc pc' K x' hx (vp_in_nI hj (by decide)) hdg hpc ?_
  rw [nI_clamp (by omega)]
  exact h
theorem xg_12 (pc pc' : Nat) (K : zok Z RX0 cc nL (tyX cs) fr lc) (hdg : decode cc pc = .ok (.getfield 38, 3)) (hpc : pc + 3 = pc') (h : zG Z (wX h0 ad cs) pc' lv (.ref (ad 12) :: st) F) : zG Z (wX h0 ad cs) pc lv (.ref h0 :: st) F := z_get pc pc' K 0 0 12 (C := RX0) (T := TX0) (N := 23) in_X0 rfl rfl (by decide) q50 rfl rfl hdg hpc h
theorem xL_12 (pc pc' : Nat) (K : zok Z RX0 cc nL (tyX cs) fr lc) {i : Int32} (hin : vp_in i 28) (hdg : decode cc pc = .ok (.iaload, 1)) (hpc : pc + 1 = pc') (h : zG Z (wX h0 ad cs) pc' lv (.int (F 12 i.toNatClampNeg) :: st) F) : zG Z (wX h0 ad cs) pc lv (.int i :: .ref (ad 12) :: st) F := z_iald pc pc' K 10 9 rfl rfl hin hdg hpc h
theorem xl_12 (pc pc' : Nat) (K : zok Z RX0 cc nL (tyX cs) fr lc) (j : Nat) {i : Int32} (hi : i = nI j) (hj : j < 28) (hdg : decode cc pc = .ok (.iaload, 1)) (hpc : pc + 1 = pc') (h : zG Z (wX h0 ad cs) pc' lv (.int (F 12 j) :: st) F) : zG Z (wX h0 ad cs) pc lv (.int i :: .ref (ad 12) :: st) F := by
  subst hi
  refine xL_12 pc pc' K (vp_in_nI hj (by decide)) hdg hpc ?_
  rw [nI_clamp (by omega)]
  exact h
theorem xS_12 (pc pc' : Nat) (K : zok Z RX0 cc nL (tyX cs) fr lc) {i x : Int32} (hin : vp_in i 28) (hdg : decode cc pc = .ok (.iastore, 1)) (hpc : pc + 1 = pc') (h : zG Z (wX h0 ad cs) pc' lv st (zput F 12 (upd (F 12) i.toNatClampNeg x))) : zG Z (wX h0 ad cs) pc lv (.int x :: .int i :: .ref (ad 12) :: st) F := z_iast pc pc' K 10 9 _ rfl rfl hin rfl hdg hpc h
theorem xs_12 (pc pc' : Nat) (K : zok Z RX0 cc nL (tyX cs) fr lc) (j : Nat) {i x : Int32} (hi : i = nI j) (hj : j < 28) (hdg : decode cc pc = .ok (.iastore, 1)) (hpc : pc + 1 = pc') (h : zG Z (wX h0 ad cs) pc' lv st (zput F 12 (upd (F 12) j x))) : zG Z (wX h0 ad cs) pc lv (.int x :: .int i :: .ref (ad 12) :: st) F := by
  subst hi
  refine xS_12 pc pc' K (vp_in_nI hj (by decide)) hdg hpc ?_
  rw [nI_clamp (by omega)]
  exact h
theorem xg_13 (pc pc' : Nat) (K : zok Z RX0 cc nL (tyX cs) fr lc) (hdg : decode cc pc = .ok (.getfield 41, 3)) (hpc : pc + 3 = pc') (h : zG Z (wX h0 ad cs) pc' lv (.ref (ad 13) :: st) F) : zG Z (wX h0 ad cs) pc lv (.ref h0 :: st) F := z_get pc pc' K 0 0 13 (C := RX0) (T := TX0) (N := 23) in_X0 rfl rfl (by decide) q51 rfl rfl hdg hpc h
theorem xL_13 (pc pc' : Nat) (K : zok Z RX0 cc nL (tyX cs) fr lc) {i : Int32} (hin : vp_in i 28) (hdg : decode cc pc = .ok (.iaload, 1)) (hpc : pc + 1 = pc') (h : zG Z (wX h0 ad cs) pc' lv (.int (F 13 i.toNatClampNeg) :: st) F) : zG Z (wX h0 ad cs) pc lv (.int i :: .ref (ad 13) :: st) F := z_iald pc pc' K 11 10 rfl rfl hin hdg hpc h
theorem xl_13 (pc pc' : Nat) (K : zok Z RX0 cc nL (tyX cs) fr lc) (j : Nat) {i : Int32} (hi : i = nI j) (hj : j < 28) (hdg : decode cc pc = .ok (.iaload, 1)) (hpc : pc + 1 = pc') (h : zG Z (wX h0 ad cs) pc' lv (.int (F 13 j) :: st) F) : zG Z (wX h0 ad cs) pc lv (.int i :: .ref (ad 13) :: st) F := by
  subst hi
  refine xL_13 pc pc' K (vp_in_nI hj (by decide)) hdg hpc ?_
  rw [nI_clamp (by omega)]
  exact h
theorem xS_13 (pc pc' : Nat) (K : zok Z RX0 cc nL (tyX cs) fr lc) {i x : Int32} (hin : vp_in i 28) (hdg : decode cc pc = .ok (.iastore, 1)) (hpc : pc + 1 = pc') (h : zG Z (wX h0 ad cs) pc' lv st (zput F 13 (upd (F 13) i.toNatClampNeg x))) : zG Z (wX h0 ad cs) pc lv (.int x :: .int i :: .ref (ad 13) :: st) F := z_iast pc pc' K 11 10 _ rfl rfl hin rfl hdg hpc h
theorem xs_13 (pc pc' : Nat) (K : zok Z RX0 cc nL (tyX cs) fr lc) (j : Nat) {i x : Int32} (hi : i = nI j) (hj : j < 28) (hdg : decode cc pc = .ok (.iastore, 1)) (hpc : pc + 1 = pc') (h : zG Z (wX h0 ad cs) pc' lv st (zput F 13 (upd (F 13) j x))) : zG Z (wX h0 ad cs) pc lv (.int x :: .int i :: .ref (ad 13) :: st) F := by
  subst hi
  refine xS_13 pc pc' K (vp_in_nI hj (by decide)) hdg hpc ?_
  rw [nI_clamp (by omega)]
  exact h
theorem xg_14 (pc pc' : Nat) (K : zok Z RX0 cc nL (tyX cs) fr lc) (hdg : decode cc pc = .ok (.getfield 44, 3)) (hpc : pc + 3 = pc') (h : zG Z (wX h0 ad cs) pc' lv (.ref (ad 14) :: st) F) : zG Z (wX h0 ad cs) pc lv (.ref h0 :: st) F := z_get pc pc' K 0 0 14 (C := RX0) (T := TX0) (N := 23) in_X0 rfl rfl (by decide) q52 rfl rfl hdg hpc h
theorem xL_14 (pc pc' : Nat) (K : zok Z RX0 cc nL (tyX cs) fr lc) {i : Int32} (hin : vp_in i 28) (hdg : decode cc pc = .ok (.iaload, 1)) (hpc : pc + 1 = pc') (h : zG Z (wX h0 ad cs) pc' lv (.int (F 14 i.toNatClampNeg) :: st) F) : zG Z (wX h0 ad cs) pc lv (.int i :: .ref (ad 14) :: st) F := z_iald pc pc' K 12 11 rfl rfl hin hdg hpc h
theorem xl_14 (pc pc' : Nat) (K : zok Z RX0 cc nL (tyX cs) fr lc) (j : Nat) {i : Int32} (hi : i = nI j) (hj : j < 28) (hdg : decode cc pc = .ok (.iaload, 1)) (hpc : pc + 1 = pc') (h : zG Z (wX h0 ad cs) pc' lv (.int (F 14 j) :: st) F) : zG Z (wX h0 ad cs) pc lv (.int i :: .ref (ad 14) :: st) F := by
  subst hi
  refine xL_14 pc pc' K (vp_in_nI hj (by decide)) hdg hpc ?_
  rw [nI_clamp (by omega)]
  exact h
theorem xS_14 (pc pc' : Nat) (K : zok Z RX0 cc nL (tyX cs) fr lc) {i x : Int32} (hin : vp_in i 28) (hdg : decode cc pc = .ok (.iastore, 1)) (hpc : pc + 1 = pc') (h : zG Z (wX h0 ad cs) pc' lv st (zput F 14 (upd (F 14) i.toNatClampNeg x))) : zG Z (wX h0 ad cs) pc lv (.int x :: .int i :: .ref (ad 14) :: st) F := z_iast pc pc' K 12 11 _ rfl rfl hin rfl hdg hpc h
theorem xs_14 (pc pc' : Nat) (K : zok Z RX0 cc nL (tyX cs) fr lc) (j : Nat) {i x : Int32} (hi : i = nI j) (hj : j < 28) (hdg : decode cc pc = .ok (.iastore, 1)) (hpc : pc + 1 = pc') (h : zG Z (wX h0 ad cs) pc' lv st (zput F 14 (upd (F 14) j x))) : zG Z (wX h0 ad cs) pc lv (.int x :: .int i :: .ref (ad 14) :: st) F := by
  subst hi
  refine xS_14 pc pc' K (vp_in_nI hj (by decide)) hdg hpc ?_
  rw [nI_clamp (by omega)]
  exact h
theorem xg_15 (pc pc' : Nat) (K : zok Z RX0 cc nL (tyX cs) fr lc) (hdg : decode cc pc = .ok (.getfield 115, 3)) (hpc : pc + 3 = pc') (h : zG Z (wX h0 ad cs) pc' lv (.int (F 15 0) :: st) F) : zG Z (wX h0 ad cs) pc lv (.ref h0 :: st) F := z_get pc pc' K 0 0 15 (C := RX0) (T := TX0) (N := 23) in_X0 rfl rfl (by decide) q53 rfl rfl hdg hpc h
theorem xp_15 (pc pc' : Nat) (K : zok Z RX0 cc nL (tyX cs) fr lc) {x : Int32} (hdg : decode cc pc = .ok (.putfield 115, 3)) (hpc : pc + 3 = pc') (h : zG Z (wX h0 ad cs) pc' lv st (zput F 15 (fun _ => x))) : zG Z (wX h0 ad cs) pc lv (.int x :: .ref h0 :: st) F := z_put pc pc' K 0 0 15 (C := RX0) (T := TX0) (N := 23) (ty := .int) (zput F 15 (fun _ => x)) in_X0 tyX0_ok nmX0 rfl rfl (by decide) q53 rfl rfl (by decide +kernel) rfl rfl (Nat.le_of_ble_eq_true rfl) rfl hdg hpc h
theorem xg_16 (pc pc' : Nat) (K : zok Z RX0 cc nL (tyX cs) fr lc) (hdg : decode cc pc = .ok (.getfield 47, 3)) (hpc : pc + 3 = pc') (h : zG Z (wX h0 ad cs) pc' lv (.ref (ad 16) :: st) F) : zG Z (wX h0 ad cs) pc lv (.ref h0 :: st) F := z_get pc pc' K 0 0 16 (C := RX0) (T := TX0) (N := 23) in_X0 rfl rfl (by decide) q54 rfl rfl hdg hpc h
theorem xL_16 (pc pc' : Nat) (K : zok Z RX0 cc nL (tyX cs) fr lc) {i : Int32} (hin : vp_in i 28) (hdg : decode cc pc = .ok (.iaload, 1)) (hpc : pc + 1 = pc') (h : zG Z (wX h0 ad cs) pc' lv (.int (F 16 i.toNatClampNeg) :: st) F) : zG Z (wX h0 ad cs) pc lv (.int i :: .ref (ad 16) :: st) F := z_iald pc pc' K 13 12 rfl rfl hin hdg hpc h
theorem xl_16 (pc pc' : Nat) (K : zok Z RX0 cc nL (tyX cs) fr lc) (j : Nat) {i : Int32} (hi : i = nI j) (hj : j < 28) (hdg : decode cc pc = .ok (.iaload, 1)) (hpc : pc + 1 = pc') (h : zG Z (wX h0 ad cs) pc' lv (.int (F 16 j) :: st) F) : zG Z (wX h0 ad cs) pc lv (.int i :: .ref (ad 16) :: st) F := by
  subst hi
  refine xL_16 pc pc' K (vp_in_nI hj (by decide)) hdg hpc ?_
  rw [nI_clamp (by omega)]
  exact h
theorem xS_16 (pc pc' : Nat) (K : zok Z RX0 cc nL (tyX cs) fr lc) {i x : Int32} (hin : vp_in i 28) (hdg : decode cc pc = .ok (.iastore, 1)) (hpc : pc + 1 = pc') (h : zG Z (wX h0 ad cs) pc' lv st (zput F 16 (upd (F 16) i.toNatClampNeg x))) : zG Z (wX h0 ad cs) pc lv (.int x :: .int i :: .ref (ad 16) :: st) F := z_iast pc pc' K 13 12 _ rfl rfl hin rfl hdg hpc h
theorem xs_16 (pc pc' : Nat) (K : zok Z RX0 cc nL (tyX cs) fr lc) (j : Nat) {i x : Int32} (hi : i = nI j) (hj : j < 28) (hdg : decode cc pc = .ok (.iastore, 1)) (hpc : pc + 1 = pc') (h : zG Z (wX h0 ad cs) pc' lv st (zput F 16 (upd (F 16) j x))) : zG Z (wX h0 ad cs) pc lv (.int x :: .int i :: .ref (ad 16) :: st) F := by
  subst hi
  refine xS_16 pc pc' K (vp_in_nI hj (by decide)) hdg hpc ?_
  rw [nI_clamp (by omega)]
  exact h
theorem xg_17 (pc pc' : Nat) (K : zok Z RX0 cc nL (tyX cs) fr lc) (hdg : decode cc pc = .ok (.getfield 50, 3)) (hpc : pc + 3 = pc') (h : zG Z (wX h0 ad cs) pc' lv (.ref (ad 17) :: st) F) : zG Z (wX h0 ad cs) pc lv (.ref h0 :: st) F := z_get pc pc' K 0 0 17 (C := RX0) (T := TX0) (N := 23) in_X0 rfl rfl (by decide) q55 rfl rfl hdg hpc h
theorem xL_17 (pc pc' : Nat) (K : zok Z RX0 cc nL (tyX cs) fr lc) {i : Int32} (hin : vp_in i 14) (hdg : decode cc pc = .ok (.iaload, 1)) (hpc : pc + 1 = pc') (h : zG Z (wX h0 ad cs) pc' lv (.int (F 17 i.toNatClampNeg) :: st) F) : zG Z (wX h0 ad cs) pc lv (.int i :: .ref (ad 17) :: st) F := z_iald pc pc' K 14 13 rfl rfl hin hdg hpc h
theorem xl_17 (pc pc' : Nat) (K : zok Z RX0 cc nL (tyX cs) fr lc) (j : Nat) {i : Int32} (hi : i = nI j) (hj : j < 14) (hdg : decode cc pc = .ok (.iaload, 1)) (hpc : pc + 1 = pc') (h : zG Z (wX h0 ad cs) pc' lv (.int (F 17 j) :: st) F) : zG Z (wX h0 ad cs) pc lv (.int i :: .ref (ad 17) :: st) F := by
  subst hi
  refine xL_17 pc pc' K (vp_in_nI hj (by decide)) hdg hpc ?_
  rw [nI_clamp (by omega)]
  exact h
theorem xS_17 (pc pc' : Nat) (K : zok Z RX0 cc nL (tyX cs) fr lc) {i x : Int32} (hin : vp_in i 14) (hdg : decode cc pc = .ok (.iastore, 1)) (hpc : pc + 1 = pc') (h : zG Z (wX h0 ad cs) pc' lv st (zput F 17 (upd (F 17) i.toNatClampNeg x))) : zG Z (wX h0 ad cs) pc lv (.int x :: .int i :: .ref (ad 17) :: st) F := z_iast pc pc' K 14 13 _ rfl rfl hin rfl hdg hpc h
theorem xs_17 (pc pc' : Nat) (K : zok Z RX0 cc nL (tyX cs) fr lc) (j : Nat) {i x : Int32} (hi : i = nI j) (hj : j < 14) (hdg : decode cc pc = .ok (.iastore, 1)) (hpc : pc + 1 = pc') (h : zG Z (wX h0 ad cs) pc' lv st (zput F 17 (upd (F 17) j x))) : zG Z (wX h0 ad cs) pc lv (.int x :: .int i :: .ref (ad 17) :: st) F := by
  subst hi
  refine xS_17 pc pc' K (vp_in_nI hj (by decide)) hdg hpc ?_
  rw [nI_clamp (by omega)]
  exact h
theorem xg_18 (pc pc' : Nat) (K : zok Z RX0 cc nL (tyX cs) fr lc) (hdg : decode cc pc = .ok (.getfield 53, 3)) (hpc : pc + 3 = pc') (h : zG Z (wX h0 ad cs) pc' lv (.ref (ad 18) :: st) F) : zG Z (wX h0 ad cs) pc lv (.ref h0 :: st) F := z_get pc pc' K 0 0 18 (C := RX0) (T := TX0) (N := 23) in_X0 rfl rfl (by decide) q56 rfl rfl hdg hpc h
theorem xL_18 (pc pc' : Nat) (K : zok Z RX0 cc nL (tyX cs) fr lc) {i : Int32} (hin : vp_in i 14) (hdg : decode cc pc = .ok (.iaload, 1)) (hpc : pc + 1 = pc') (h : zG Z (wX h0 ad cs) pc' lv (.int (F 18 i.toNatClampNeg) :: st) F) : zG Z (wX h0 ad cs) pc lv (.int i :: .ref (ad 18) :: st) F := z_iald pc pc' K 15 14 rfl rfl hin hdg hpc h
theorem xl_18 (pc pc' : Nat) (K : zok Z RX0 cc nL (tyX cs) fr lc) (j : Nat) {i : Int32} (hi : i = nI j) (hj : j < 14) (hdg : decode cc pc = .ok (.iaload, 1)) (hpc : pc + 1 = pc') (h : zG Z (wX h0 ad cs) pc' lv (.int (F 18 j) :: st) F) : zG Z (wX h0 ad cs) pc lv (.int i :: .ref (ad 18) :: st) F := by
  subst hi
  refine xL_18 pc pc' K (vp_in_nI hj (by decide)) hdg hpc ?_
  rw [nI_clamp (by omega)]
  exact h
theorem xS_18 (pc pc' : Nat) (K : zok Z RX0 cc nL (tyX cs) fr lc) {i x : Int32} (hin : vp_in i 14) (hdg : decode cc pc = .ok (.iastore, 1)) (hpc : pc + 1 = pc') (h : zG Z (wX h0 ad cs) pc' lv st (zput F 18 (upd (F 18) i.toNatClampNeg x))) : zG Z (wX h0 ad cs) pc lv (.int x :: .int i :: .ref (ad 18) :: st) F := z_iast pc pc' K 15 14 _ rfl rfl hin rfl hdg hpc h
theorem xs_18 (pc pc' : Nat) (K : zok Z RX0 cc nL (tyX cs) fr lc) (j : Nat) {i x : Int32} (hi : i = nI j) (hj : j < 14) (hdg : decode cc pc = .ok (.iastore, 1)) (hpc : pc + 1 = pc') (h : zG Z (wX h0 ad cs) pc' lv st (zput F 18 (upd (F 18) j x))) : zG Z (wX h0 ad cs) pc lv (.int x :: .int i :: .ref (ad 18) :: st) F := by
  subst hi
  refine xS_18 pc pc' K (vp_in_nI hj (by decide)) hdg hpc ?_
  rw [nI_clamp (by omega)]
  exact h
theorem xg_19 (pc pc' : Nat) (K : zok Z RX0 cc nL (tyX cs) fr lc) (hdg : decode cc pc = .ok (.getfield 56, 3)) (hpc : pc + 3 = pc') (h : zG Z (wX h0 ad cs) pc' lv (.ref (ad 19) :: st) F) : zG Z (wX h0 ad cs) pc lv (.ref h0 :: st) F := z_get pc pc' K 0 0 19 (C := RX0) (T := TX0) (N := 23) in_X0 rfl rfl (by decide) q57 rfl rfl hdg hpc h
theorem xL_19 (pc pc' : Nat) (K : zok Z RX0 cc nL (tyX cs) fr lc) {i : Int32} (hin : vp_in i 14) (hdg : decode cc pc = .ok (.baload, 1)) (hpc : pc + 1 = pc') (h : zG Z (wX h0 ad cs) pc' lv (.int (F 19 i.toNatClampNeg) :: st) F) : zG Z (wX h0 ad cs) pc lv (.int i :: .ref (ad 19) :: st) F := z_zald pc pc' K 16 15 rfl rfl hin hdg hpc h
theorem xl_19 (pc pc' : Nat) (K : zok Z RX0 cc nL (tyX cs) fr lc) (j : Nat) {i : Int32} (hi : i = nI j) (hj : j < 14) (hdg : decode cc pc = .ok (.baload, 1)) (hpc : pc + 1 = pc') (h : zG Z (wX h0 ad cs) pc' lv (.int (F 19 j) :: st) F) : zG Z (wX h0 ad cs) pc lv (.int i :: .ref (ad 19) :: st) F := by
  subst hi
  refine xL_19 pc pc' K (vp_in_nI hj (by decide)) hdg hpc ?_
  rw [nI_clamp (by omega)]
  exact h
theorem xS_19 (pc pc' : Nat) (K : zok Z RX0 cc nL (tyX cs) fr lc) {i x : Int32} (x' : Int32) (hx : vp_nar .boolean x = x') (hin : vp_in i 14) (hdg : decode cc pc = .ok (.bastore, 1)) (hpc : pc + 1 = pc') (h : zG Z (wX h0 ad cs) pc' lv st (zput F 19 (upd (F 19) i.toNatClampNeg x'))) : zG Z (wX h0 ad cs) pc lv (.int x :: .int i :: .ref (ad 19) :: st) F := by
  subst hx
  exact z_zast pc pc' K 16 15 _ rfl rfl hin rfl hdg hpc h
theorem xs_19 (pc pc' : Nat) (K : zok Z RX0 cc nL (tyX cs) fr lc) (j : Nat) {i x : Int32} (x' : Int32) (hx : vp_nar .boolean x = x') (hi : i = nI j) (hj : j < 14) (hdg : decode cc pc = .ok (.bastore, 1)) (hpc : pc + 1 = pc') (h : zG Z (wX h0 ad cs) pc' lv st (zput F 19 (upd (F 19) j x'))) : zG Z (wX h0 ad cs) pc lv (.int x :: .int i :: .ref (ad 19) :: st) F := by
  subst hi
  refine xS_19 pc pc' K x' hx (vp_in_nI hj (by decide)) hdg hpc ?_
  rw [nI_clamp (by omega)]
  exact h
theorem xg_20 (pc pc' : Nat) (K : zok Z RX0 cc nL (tyX cs) fr lc) (hdg : decode cc pc = .ok (.getfield 127, 3)) (hpc : pc + 3 = pc') (h : zG Z (wX h0 ad cs) pc' lv (.int (F 20 0) :: st) F) : zG Z (wX h0 ad cs) pc lv (.ref h0 :: st) F := z_get pc pc' K 0 0 20 (C := RX0) (T := TX0) (N := 23) in_X0 rfl rfl (by decide) q58 rfl rfl hdg hpc h
theorem xp_20 (pc pc' : Nat) (K : zok Z RX0 cc nL (tyX cs) fr lc) {x : Int32} (hdg : decode cc pc = .ok (.putfield 127, 3)) (hpc : pc + 3 = pc') (h : zG Z (wX h0 ad cs) pc' lv st (zput F 20 (fun _ => x))) : zG Z (wX h0 ad cs) pc lv (.int x :: .ref h0 :: st) F := z_put pc pc' K 0 0 20 (C := RX0) (T := TX0) (N := 23) (ty := .int) (zput F 20 (fun _ => x)) in_X0 tyX0_ok nmX0 rfl rfl (by decide) q58 rfl rfl (by decide +kernel) rfl rfl (Nat.le_of_ble_eq_true rfl) rfl hdg hpc h
theorem xg_21 (pc pc' : Nat) (K : zok Z RX0 cc nL (tyX cs) fr lc) (hdg : decode cc pc = .ok (.getfield 59, 3)) (hpc : pc + 3 = pc') (h : zG Z (wX h0 ad cs) pc' lv (.ref (ad 21) :: st) F) : zG Z (wX h0 ad cs) pc lv (.ref h0 :: st) F := z_get pc pc' K 0 0 21 (C := RX0) (T := TX0) (N := 23) in_X0 rfl rfl (by decide) q59 rfl rfl hdg hpc h
theorem xL_21 (pc pc' : Nat) (K : zok Z RX0 cc nL (tyX cs) fr lc) {i : Int32} (hin : vp_in i 4) (hdg : decode cc pc = .ok (.iaload, 1)) (hpc : pc + 1 = pc') (h : zG Z (wX h0 ad cs) pc' lv (.int (F 21 i.toNatClampNeg) :: st) F) : zG Z (wX h0 ad cs) pc lv (.int i :: .ref (ad 21) :: st) F := z_iald pc pc' K 17 16 rfl rfl hin hdg hpc h
theorem xl_21 (pc pc' : Nat) (K : zok Z RX0 cc nL (tyX cs) fr lc) (j : Nat) {i : Int32} (hi : i = nI j) (hj : j < 4) (hdg : decode cc pc = .ok (.iaload, 1)) (hpc : pc + 1 = pc') (h : zG Z (wX h0 ad cs) pc' lv (.int (F 21 j) :: st) F) : zG Z (wX h0 ad cs) pc lv (.int i :: .ref (ad 21) :: st) F := by
  subst hi
  refine xL_21 pc pc' K (vp_in_nI hj (by decide)) hdg hpc ?_
  rw [nI_clamp (by omega)]
  exact h
theorem xS_21 (pc pc' : Nat) (K : zok Z RX0 cc nL (tyX cs) fr lc) {i x : Int32} (hin : vp_in i 4) (hdg : decode cc pc = .ok (.iastore, 1)) (hpc : pc + 1 = pc') (h : zG Z (wX h0 ad cs) pc' lv st (zput F 21 (upd (F 21) i.toNatClampNeg x))) : zG Z (wX h0 ad cs) pc lv (.int x :: .int i :: .ref (ad 21) :: st) F := z_iast pc pc' K 17 16 _ rfl rfl hin rfl hdg hpc h
theorem xs_21 (pc pc' : Nat) (K : zok Z RX0 cc nL (tyX cs) fr lc) (j : Nat) {i x : Int32} (hi : i = nI j) (hj : j < 4) (hdg : decode cc pc = .ok (.iastore, 1)) (hpc : pc + 1 = pc') (h : zG Z (wX h0 ad cs) pc' lv st (zput F 21 (upd (F 21) j x))) : zG Z (wX h0 ad cs) pc lv (.int x :: .int i :: .ref (ad 21) :: st) F := by
  subst hi
  refine xS_21 pc pc' K (vp_in_nI hj (by decide)) hdg hpc ?_
  rw [nI_clamp (by omega)]
  exact h
theorem xg_22 (pc pc' : Nat) (K : zok Z RX0 cc nL (tyX cs) fr lc) (hdg : decode cc pc = .ok (.getfield 62, 3)) (hpc : pc + 3 = pc') (h : zG Z (wX h0 ad cs) pc' lv (.ref (ad 22) :: st) F) : zG Z (wX h0 ad cs) pc lv (.ref h0 :: st) F := z_get pc pc' K 0 0 22 (C := RX0) (T := TX0) (N := 23) in_X0 rfl rfl (by decide) q60 rfl rfl hdg hpc h
theorem xL_22 (pc pc' : Nat) (K : zok Z RX0 cc nL (tyX cs) fr lc) {i : Int32} (hin : vp_in i 4) (hdg : decode cc pc = .ok (.iaload, 1)) (hpc : pc + 1 = pc') (h : zG Z (wX h0 ad cs) pc' lv (.int (F 22 i.toNatClampNeg) :: st) F) : zG Z (wX h0 ad cs) pc lv (.int i :: .ref (ad 22) :: st) F := z_iald pc pc' K 18 17 rfl rfl hin hdg hpc h
theorem xl_22 (pc pc' : Nat) (K : zok Z RX0 cc nL (tyX cs) fr lc) (j : Nat) {i : Int32} (hi : i = nI j) (hj : j < 4) (hdg : decode cc pc = .ok (.iaload, 1)) (hpc : pc + 1 = pc') (h : zG Z (wX h0 ad cs) pc' lv (.int (F 22 j) :: st) F) : zG Z (wX h0 ad cs) pc lv (.int i :: .ref (ad 22) :: st) F := by
  subst hi
  refine xL_22 pc pc' K (vp_in_nI hj (by decide)) hdg hpc ?_
  rw [nI_clamp (by omega)]
  exact h
theorem xS_22 (pc pc' : Nat) (K : zok Z RX0 cc nL (tyX cs) fr lc) {i x : Int32} (hin : vp_in i 4) (hdg : decode cc pc = .ok (.iastore, 1)) (hpc : pc + 1 = pc') (h : zG Z (wX h0 ad cs) pc' lv st (zput F 22 (upd (F 22) i.toNatClampNeg x))) : zG Z (wX h0 ad cs) pc lv (.int x :: .int i :: .ref (ad 22) :: st) F := z_iast pc pc' K 18 17 _ rfl rfl hin rfl hdg hpc h
theorem xs_22 (pc pc' : Nat) (K : zok Z RX0 cc nL (tyX cs) fr lc) (j : Nat) {i x : Int32} (hi : i = nI j) (hj : j < 4) (hdg : decode cc pc = .ok (.iastore, 1)) (hpc : pc + 1 = pc') (h : zG Z (wX h0 ad cs) pc' lv st (zput F 22 (upd (F 22) j x))) : zG Z (wX h0 ad cs) pc lv (.int x :: .int i :: .ref (ad 22) :: st) F := by
  subst hi
  refine xS_22 pc pc' K (vp_in_nI hj (by decide)) hdg hpc ?_
  rw [nI_clamp (by omega)]
  exact h
end Rx
def wM (h0 : Nat) (ad : Nat → Nat) (cs : Nat → ClassId) (F : Nat → Nat → Int32) : va_W := [(h0, .inr (1, [.ref (ad 0), .ref (ad 1), .ref (ad 2), .ref (ad 3), .int (F 4 0), .ref (ad 5), .ref (ad 6), .ref (ad 7), .int (F 8 0)])), (ad 0, .inl (cs 0, 14, .inl (F 0))), (ad 1, .inl (cs 1, 14, .inl (F 1))), (ad 2, .inl (cs 2, 14, .inl (F 2))), (ad 3, .inl (cs 3, 14, .inl (F 3))), (ad 5, .inl (cs 5, 8, .inl (F 5))), (ad 6, .inl (cs 6, 16, .inl (F 6))), (ad 7, .inl (cs 7, 16, .inl (F 7)))]
def tyM (cs : Nat → ClassId) : List (ClassId × FieldType) := [(cs 0, .int), (cs 1, .int), (cs 2, .int), (cs 3, .int), (cs 5, .int), (cs 6, .int), (cs 7, .boolean)]
section Ry
variable {Z : zz_T} {cc : ByteArray} {nL fr lc : Nat} {lv : List (Nat × Value)} {st : List Value} {F : Nat → Nat → Int32} {h0 : Nat} {ad : Nat → Nat} {cs : Nat → ClassId}
theorem yg_0 (pc pc' : Nat) (K : zok Z RX1 cc nL (tyM cs) fr lc) (hdg : decode cc pc = .ok (.getfield 7, 3)) (hpc : pc + 3 = pc') (h : zG Z (wM h0 ad cs) pc' lv (.ref (ad 0) :: st) F) : zG Z (wM h0 ad cs) pc lv (.ref h0 :: st) F := z_get pc pc' K 0 1 0 (C := RX1) (T := TX1) (N := 9) in_X1 rfl rfl (by decide) q273 rfl rfl hdg hpc h
theorem yL_0 (pc pc' : Nat) (K : zok Z RX1 cc nL (tyM cs) fr lc) {i : Int32} (hin : vp_in i 14) (hdg : decode cc pc = .ok (.iaload, 1)) (hpc : pc + 1 = pc') (h : zG Z (wM h0 ad cs) pc' lv (.int (F 0 i.toNatClampNeg) :: st) F) : zG Z (wM h0 ad cs) pc lv (.int i :: .ref (ad 0) :: st) F := z_iald pc pc' K 1 0 rfl rfl hin hdg hpc h
theorem yl_0 (pc pc' : Nat) (K : zok Z RX1 cc nL (tyM cs) fr lc) (j : Nat) {i : Int32} (hi : i = nI j) (hj : j < 14) (hdg : decode cc pc = .ok (.iaload, 1)) (hpc : pc + 1 = pc') (h : zG Z (wM h0 ad cs) pc' lv (.int (F 0 j) :: st) F) : zG Z (wM h0 ad cs) pc lv (.int i :: .ref (ad 0) :: st) F := by
  subst hi
  refine yL_0 pc pc' K (vp_in_nI hj (by decide)) hdg hpc ?_
  rw [nI_clamp (by omega)]
  exact h
theorem yS_0 (pc pc' : Nat) (K : zok Z RX1 cc nL (tyM cs) fr lc) {i x : Int32} (hin : vp_in i 14) (hdg : decode cc pc = .ok (.iastore, 1)) (hpc : pc + 1 = pc') (h : zG Z (wM h0 ad cs) pc' lv st (zput F 0 (upd (F 0) i.toNatClampNeg x))) : zG Z (wM h0 ad cs) pc lv (.int x :: .int i :: .ref (ad 0) :: st) F := z_iast pc pc' K 1 0 _ rfl rfl hin rfl hdg hpc h
theorem ys_0 (pc pc' : Nat) (K : zok Z RX1 cc nL (tyM cs) fr lc) (j : Nat) {i x : Int32} (hi : i = nI j) (hj : j < 14) (hdg : decode cc pc = .ok (.iastore, 1)) (hpc : pc + 1 = pc') (h : zG Z (wM h0 ad cs) pc' lv st (zput F 0 (upd (F 0) j x))) : zG Z (wM h0 ad cs) pc lv (.int x :: .int i :: .ref (ad 0) :: st) F := by
  subst hi
  refine yS_0 pc pc' K (vp_in_nI hj (by decide)) hdg hpc ?_
  rw [nI_clamp (by omega)]
  exact h
theorem yg_1 (pc pc' : Nat) (K : zok Z RX1 cc nL (tyM cs) fr lc) (hdg : decode cc pc = .ok (.getfield 13, 3)) (hpc : pc + 3 = pc') (h : zG Z (wM h0 ad cs) pc' lv (.ref (ad 1) :: st) F) : zG Z (wM h0 ad cs) pc lv (.ref h0 :: st) F := z_get pc pc' K 0 1 1 (C := RX1) (T := TX1) (N := 9) in_X1 rfl rfl (by decide) q274 rfl rfl hdg hpc h
theorem yL_1 (pc pc' : Nat) (K : zok Z RX1 cc nL (tyM cs) fr lc) {i : Int32} (hin : vp_in i 14) (hdg : decode cc pc = .ok (.iaload, 1)) (hpc : pc + 1 = pc') (h : zG Z (wM h0 ad cs) pc' lv (.int (F 1 i.toNatClampNeg) :: st) F) : zG Z (wM h0 ad cs) pc lv (.int i :: .ref (ad 1) :: st) F := z_iald pc pc' K 2 1 rfl rfl hin hdg hpc h
theorem yl_1 (pc pc' : Nat) (K : zok Z RX1 cc nL (tyM cs) fr lc) (j : Nat) {i : Int32} (hi : i = nI j) (hj : j < 14) (hdg : decode cc pc = .ok (.iaload, 1)) (hpc : pc + 1 = pc') (h : zG Z (wM h0 ad cs) pc' lv (.int (F 1 j) :: st) F) : zG Z (wM h0 ad cs) pc lv (.int i :: .ref (ad 1) :: st) F := by
  subst hi
  refine yL_1 pc pc' K (vp_in_nI hj (by decide)) hdg hpc ?_
  rw [nI_clamp (by omega)]
  exact h
theorem yS_1 (pc pc' : Nat) (K : zok Z RX1 cc nL (tyM cs) fr lc) {i x : Int32} (hin : vp_in i 14) (hdg : decode cc pc = .ok (.iastore, 1)) (hpc : pc + 1 = pc') (h : zG Z (wM h0 ad cs) pc' lv st (zput F 1 (upd (F 1) i.toNatClampNeg x))) : zG Z (wM h0 ad cs) pc lv (.int x :: .int i :: .ref (ad 1) :: st) F := z_iast pc pc' K 2 1 _ rfl rfl hin rfl hdg hpc h
theorem ys_1 (pc pc' : Nat) (K : zok Z RX1 cc nL (tyM cs) fr lc) (j : Nat) {i x : Int32} (hi : i = nI j) (hj : j < 14) (hdg : decode cc pc = .ok (.iastore, 1)) (hpc : pc + 1 = pc') (h : zG Z (wM h0 ad cs) pc' lv st (zput F 1 (upd (F 1) j x))) : zG Z (wM h0 ad cs) pc lv (.int x :: .int i :: .ref (ad 1) :: st) F := by
  subst hi
  refine yS_1 pc pc' K (vp_in_nI hj (by decide)) hdg hpc ?_
  rw [nI_clamp (by omega)]
  exact h
theorem yg_2 (pc pc' : Nat) (K : zok Z RX1 cc nL (tyM cs) fr lc) (hdg : decode cc pc = .ok (.getfield 16, 3)) (hpc : pc + 3 = pc') (h : zG Z (wM h0 ad cs) pc' lv (.ref (ad 2) :: st) F) : zG Z (wM h0 ad cs) pc lv (.ref h0 :: st) F := z_get pc pc' K 0 1 2 (C := RX1) (T := TX1) (N := 9) in_X1 rfl rfl (by decide) q275 rfl rfl hdg hpc h
theorem yL_2 (pc pc' : Nat) (K : zok Z RX1 cc nL (tyM cs) fr lc) {i : Int32} (hin : vp_in i 14) (hdg : decode cc pc = .ok (.iaload, 1)) (hpc : pc + 1 = pc') (h : zG Z (wM h0 ad cs) pc' lv (.int (F 2 i.toNatClampNeg) :: st) F) : zG Z (wM h0 ad cs) pc lv (.int i :: .ref (ad 2) :: st) F := z_iald pc pc' K 3 2 rfl rfl hin hdg hpc h
theorem yl_2 (pc pc' : Nat) (K : zok Z RX1 cc nL (tyM cs) fr lc) (j : Nat) {i : Int32} (hi : i = nI j) (hj : j < 14) (hdg : decode cc pc = .ok (.iaload, 1)) (hpc : pc + 1 = pc') (h : zG Z (wM h0 ad cs) pc' lv (.int (F 2 j) :: st) F) : zG Z (wM h0 ad cs) pc lv (.int i :: .ref (ad 2) :: st) F := by
  subst hi
  refine yL_2 pc pc' K (vp_in_nI hj (by decide)) hdg hpc ?_
  rw [nI_clamp (by omega)]
  exact h
theorem yS_2 (pc pc' : Nat) (K : zok Z RX1 cc nL (tyM cs) fr lc) {i x : Int32} (hin : vp_in i 14) (hdg : decode cc pc = .ok (.iastore, 1)) (hpc : pc + 1 = pc') (h : zG Z (wM h0 ad cs) pc' lv st (zput F 2 (upd (F 2) i.toNatClampNeg x))) : zG Z (wM h0 ad cs) pc lv (.int x :: .int i :: .ref (ad 2) :: st) F := z_iast pc pc' K 3 2 _ rfl rfl hin rfl hdg hpc h
theorem ys_2 (pc pc' : Nat) (K : zok Z RX1 cc nL (tyM cs) fr lc) (j : Nat) {i x : Int32} (hi : i = nI j) (hj : j < 14) (hdg : decode cc pc = .ok (.iastore, 1)) (hpc : pc + 1 = pc') (h : zG Z (wM h0 ad cs) pc' lv st (zput F 2 (upd (F 2) j x))) : zG Z (wM h0 ad cs) pc lv (.int x :: .int i :: .ref (ad 2) :: st) F := by
  subst hi
  refine yS_2 pc pc' K (vp_in_nI hj (by decide)) hdg hpc ?_
  rw [nI_clamp (by omega)]
  exact h
theorem yg_3 (pc pc' : Nat) (K : zok Z RX1 cc nL (tyM cs) fr lc) (hdg : decode cc pc = .ok (.getfield 19, 3)) (hpc : pc + 3 = pc') (h : zG Z (wM h0 ad cs) pc' lv (.ref (ad 3) :: st) F) : zG Z (wM h0 ad cs) pc lv (.ref h0 :: st) F := z_get pc pc' K 0 1 3 (C := RX1) (T := TX1) (N := 9) in_X1 rfl rfl (by decide) q276 rfl rfl hdg hpc h
theorem yL_3 (pc pc' : Nat) (K : zok Z RX1 cc nL (tyM cs) fr lc) {i : Int32} (hin : vp_in i 14) (hdg : decode cc pc = .ok (.iaload, 1)) (hpc : pc + 1 = pc') (h : zG Z (wM h0 ad cs) pc' lv (.int (F 3 i.toNatClampNeg) :: st) F) : zG Z (wM h0 ad cs) pc lv (.int i :: .ref (ad 3) :: st) F := z_iald pc pc' K 4 3 rfl rfl hin hdg hpc h
theorem yl_3 (pc pc' : Nat) (K : zok Z RX1 cc nL (tyM cs) fr lc) (j : Nat) {i : Int32} (hi : i = nI j) (hj : j < 14) (hdg : decode cc pc = .ok (.iaload, 1)) (hpc : pc + 1 = pc') (h : zG Z (wM h0 ad cs) pc' lv (.int (F 3 j) :: st) F) : zG Z (wM h0 ad cs) pc lv (.int i :: .ref (ad 3) :: st) F := by
  subst hi
  refine yL_3 pc pc' K (vp_in_nI hj (by decide)) hdg hpc ?_
  rw [nI_clamp (by omega)]
  exact h
theorem yS_3 (pc pc' : Nat) (K : zok Z RX1 cc nL (tyM cs) fr lc) {i x : Int32} (hin : vp_in i 14) (hdg : decode cc pc = .ok (.iastore, 1)) (hpc : pc + 1 = pc') (h : zG Z (wM h0 ad cs) pc' lv st (zput F 3 (upd (F 3) i.toNatClampNeg x))) : zG Z (wM h0 ad cs) pc lv (.int x :: .int i :: .ref (ad 3) :: st) F := z_iast pc pc' K 4 3 _ rfl rfl hin rfl hdg hpc h
theorem ys_3 (pc pc' : Nat) (K : zok Z RX1 cc nL (tyM cs) fr lc) (j : Nat) {i x : Int32} (hi : i = nI j) (hj : j < 14) (hdg : decode cc pc = .ok (.iastore, 1)) (hpc : pc + 1 = pc') (h : zG Z (wM h0 ad cs) pc' lv st (zput F 3 (upd (F 3) j x))) : zG Z (wM h0 ad cs) pc lv (.int x :: .int i :: .ref (ad 3) :: st) F := by
  subst hi
  refine yS_3 pc pc' K (vp_in_nI hj (by decide)) hdg hpc ?_
  rw [nI_clamp (by omega)]
  exact h
theorem yg_4 (pc pc' : Nat) (K : zok Z RX1 cc nL (tyM cs) fr lc) (hdg : decode cc pc = .ok (.getfield 36, 3)) (hpc : pc + 3 = pc') (h : zG Z (wM h0 ad cs) pc' lv (.int (F 4 0) :: st) F) : zG Z (wM h0 ad cs) pc lv (.ref h0 :: st) F := z_get pc pc' K 0 1 4 (C := RX1) (T := TX1) (N := 9) in_X1 rfl rfl (by decide) q277 rfl rfl hdg hpc h
theorem yp_4 (pc pc' : Nat) (K : zok Z RX1 cc nL (tyM cs) fr lc) {x : Int32} (hdg : decode cc pc = .ok (.putfield 36, 3)) (hpc : pc + 3 = pc') (h : zG Z (wM h0 ad cs) pc' lv st (zput F 4 (fun _ => x))) : zG Z (wM h0 ad cs) pc lv (.int x :: .ref h0 :: st) F := z_put pc pc' K 0 1 4 (C := RX1) (T := TX1) (N := 9) (ty := .int) (zput F 4 (fun _ => x)) in_X1 tyX1_ok nmX1 rfl rfl (by decide) q277 rfl rfl (by decide +kernel) rfl rfl (Nat.le_of_ble_eq_true rfl) rfl hdg hpc h
theorem yg_5 (pc pc' : Nat) (K : zok Z RX1 cc nL (tyM cs) fr lc) (hdg : decode cc pc = .ok (.getfield 22, 3)) (hpc : pc + 3 = pc') (h : zG Z (wM h0 ad cs) pc' lv (.ref (ad 5) :: st) F) : zG Z (wM h0 ad cs) pc lv (.ref h0 :: st) F := z_get pc pc' K 0 1 5 (C := RX1) (T := TX1) (N := 9) in_X1 rfl rfl (by decide) q278 rfl rfl hdg hpc h
theorem yL_5 (pc pc' : Nat) (K : zok Z RX1 cc nL (tyM cs) fr lc) {i : Int32} (hin : vp_in i 8) (hdg : decode cc pc = .ok (.iaload, 1)) (hpc : pc + 1 = pc') (h : zG Z (wM h0 ad cs) pc' lv (.int (F 5 i.toNatClampNeg) :: st) F) : zG Z (wM h0 ad cs) pc lv (.int i :: .ref (ad 5) :: st) F := z_iald pc pc' K 5 4 rfl rfl hin hdg hpc h
theorem yl_5 (pc pc' : Nat) (K : zok Z RX1 cc nL (tyM cs) fr lc) (j : Nat) {i : Int32} (hi : i = nI j) (hj : j < 8) (hdg : decode cc pc = .ok (.iaload, 1)) (hpc : pc + 1 = pc') (h : zG Z (wM h0 ad cs) pc' lv (.int (F 5 j) :: st) F) : zG Z (wM h0 ad cs) pc lv (.int i :: .ref (ad 5) :: st) F := by
  subst hi
  refine yL_5 pc pc' K (vp_in_nI hj (by decide)) hdg hpc ?_
  rw [nI_clamp (by omega)]
  exact h
theorem yS_5 (pc pc' : Nat) (K : zok Z RX1 cc nL (tyM cs) fr lc) {i x : Int32} (hin : vp_in i 8) (hdg : decode cc pc = .ok (.iastore, 1)) (hpc : pc + 1 = pc') (h : zG Z (wM h0 ad cs) pc' lv st (zput F 5 (upd (F 5) i.toNatClampNeg x))) : zG Z (wM h0 ad cs) pc lv (.int x :: .int i :: .ref (ad 5) :: st) F := z_iast pc pc' K 5 4 _ rfl rfl hin rfl hdg hpc h
theorem ys_5 (pc pc' : Nat) (K : zok Z RX1 cc nL (tyM cs) fr lc) (j : Nat) {i x : Int32} (hi : i = nI j) (hj : j < 8) (hdg : decode cc pc = .ok (.iastore, 1)) (hpc : pc + 1 = pc') (h : zG Z (wM h0 ad cs) pc' lv st (zput F 5 (upd (F 5) j x))) : zG Z (wM h0 ad cs) pc lv (.int x :: .int i :: .ref (ad 5) :: st) F := by
  subst hi
  refine yS_5 pc pc' K (vp_in_nI hj (by decide)) hdg hpc ?_
  rw [nI_clamp (by omega)]
  exact h
theorem yg_6 (pc pc' : Nat) (K : zok Z RX1 cc nL (tyM cs) fr lc) (hdg : decode cc pc = .ok (.getfield 25, 3)) (hpc : pc + 3 = pc') (h : zG Z (wM h0 ad cs) pc' lv (.ref (ad 6) :: st) F) : zG Z (wM h0 ad cs) pc lv (.ref h0 :: st) F := z_get pc pc' K 0 1 6 (C := RX1) (T := TX1) (N := 9) in_X1 rfl rfl (by decide) q279 rfl rfl hdg hpc h
theorem yL_6 (pc pc' : Nat) (K : zok Z RX1 cc nL (tyM cs) fr lc) {i : Int32} (hin : vp_in i 16) (hdg : decode cc pc = .ok (.iaload, 1)) (hpc : pc + 1 = pc') (h : zG Z (wM h0 ad cs) pc' lv (.int (F 6 i.toNatClampNeg) :: st) F) : zG Z (wM h0 ad cs) pc lv (.int i :: .ref (ad 6) :: st) F := z_iald pc pc' K 6 5 rfl rfl hin hdg hpc h
theorem yl_6 (pc pc' : Nat) (K : zok Z RX1 cc nL (tyM cs) fr lc) (j : Nat) {i : Int32} (hi : i = nI j) (hj : j < 16) (hdg : decode cc pc = .ok (.iaload, 1)) (hpc : pc + 1 = pc') (h : zG Z (wM h0 ad cs) pc' lv (.int (F 6 j) :: st) F) : zG Z (wM h0 ad cs) pc lv (.int i :: .ref (ad 6) :: st) F := by
  subst hi
  refine yL_6 pc pc' K (vp_in_nI hj (by decide)) hdg hpc ?_
  rw [nI_clamp (by omega)]
  exact h
theorem yS_6 (pc pc' : Nat) (K : zok Z RX1 cc nL (tyM cs) fr lc) {i x : Int32} (hin : vp_in i 16) (hdg : decode cc pc = .ok (.iastore, 1)) (hpc : pc + 1 = pc') (h : zG Z (wM h0 ad cs) pc' lv st (zput F 6 (upd (F 6) i.toNatClampNeg x))) : zG Z (wM h0 ad cs) pc lv (.int x :: .int i :: .ref (ad 6) :: st) F := z_iast pc pc' K 6 5 _ rfl rfl hin rfl hdg hpc h
theorem ys_6 (pc pc' : Nat) (K : zok Z RX1 cc nL (tyM cs) fr lc) (j : Nat) {i x : Int32} (hi : i = nI j) (hj : j < 16) (hdg : decode cc pc = .ok (.iastore, 1)) (hpc : pc + 1 = pc') (h : zG Z (wM h0 ad cs) pc' lv st (zput F 6 (upd (F 6) j x))) : zG Z (wM h0 ad cs) pc lv (.int x :: .int i :: .ref (ad 6) :: st) F := by
  subst hi
  refine yS_6 pc pc' K (vp_in_nI hj (by decide)) hdg hpc ?_
  rw [nI_clamp (by omega)]
  exact h
theorem yg_7 (pc pc' : Nat) (K : zok Z RX1 cc nL (tyM cs) fr lc) (hdg : decode cc pc = .ok (.getfield 28, 3)) (hpc : pc + 3 = pc') (h : zG Z (wM h0 ad cs) pc' lv (.ref (ad 7) :: st) F) : zG Z (wM h0 ad cs) pc lv (.ref h0 :: st) F := z_get pc pc' K 0 1 7 (C := RX1) (T := TX1) (N := 9) in_X1 rfl rfl (by decide) q280 rfl rfl hdg hpc h
theorem yL_7 (pc pc' : Nat) (K : zok Z RX1 cc nL (tyM cs) fr lc) {i : Int32} (hin : vp_in i 16) (hdg : decode cc pc = .ok (.baload, 1)) (hpc : pc + 1 = pc') (h : zG Z (wM h0 ad cs) pc' lv (.int (F 7 i.toNatClampNeg) :: st) F) : zG Z (wM h0 ad cs) pc lv (.int i :: .ref (ad 7) :: st) F := z_zald pc pc' K 7 6 rfl rfl hin hdg hpc h
theorem yl_7 (pc pc' : Nat) (K : zok Z RX1 cc nL (tyM cs) fr lc) (j : Nat) {i : Int32} (hi : i = nI j) (hj : j < 16) (hdg : decode cc pc = .ok (.baload, 1)) (hpc : pc + 1 = pc') (h : zG Z (wM h0 ad cs) pc' lv (.int (F 7 j) :: st) F) : zG Z (wM h0 ad cs) pc lv (.int i :: .ref (ad 7) :: st) F := by
  subst hi
  refine yL_7 pc pc' K (vp_in_nI hj (by decide)) hdg hpc ?_
  rw [nI_clamp (by omega)]
  exact h
theorem yS_7 (pc pc' : Nat) (K : zok Z RX1 cc nL (tyM cs) fr lc) {i x : Int32} (x' : Int32) (hx : vp_nar .boolean x = x') (hin : vp_in i 16) (hdg : decode cc pc = .ok (.bastore, 1)) (hpc : pc + 1 = pc') (h : zG Z (wM h0 ad cs) pc' lv st (zput F 7 (upd (F 7) i.toNatClampNeg x'))) : zG Z (wM h0 ad cs) pc lv (.int x :: .int i :: .ref (ad 7) :: st) F := by
  subst hx
  exact z_zast pc pc' K 7 6 _ rfl rfl hin rfl hdg hpc h
theorem ys_7 (pc pc' : Nat) (K : zok Z RX1 cc nL (tyM cs) fr lc) (j : Nat) {i x : Int32} (x' : Int32) (hx : vp_nar .boolean x = x') (hi : i = nI j) (hj : j < 16) (hdg : decode cc pc = .ok (.bastore, 1)) (hpc : pc + 1 = pc') (h : zG Z (wM h0 ad cs) pc' lv st (zput F 7 (upd (F 7) j x'))) : zG Z (wM h0 ad cs) pc lv (.int x :: .int i :: .ref (ad 7) :: st) F := by
  subst hi
  refine yS_7 pc pc' K x' hx (vp_in_nI hj (by decide)) hdg hpc ?_
  rw [nI_clamp (by omega)]
  exact h
theorem yg_8 (pc pc' : Nat) (K : zok Z RX1 cc nL (tyM cs) fr lc) (hdg : decode cc pc = .ok (.getfield 32, 3)) (hpc : pc + 3 = pc') (h : zG Z (wM h0 ad cs) pc' lv (.int (F 8 0) :: st) F) : zG Z (wM h0 ad cs) pc lv (.ref h0 :: st) F := z_get pc pc' K 0 1 8 (C := RX1) (T := TX1) (N := 9) in_X1 rfl rfl (by decide) q281 rfl rfl hdg hpc h
theorem yp_8 (pc pc' : Nat) (K : zok Z RX1 cc nL (tyM cs) fr lc) {x : Int32} (hdg : decode cc pc = .ok (.putfield 32, 3)) (hpc : pc + 3 = pc') (h : zG Z (wM h0 ad cs) pc' lv st (zput F 8 (fun _ => x))) : zG Z (wM h0 ad cs) pc lv (.int x :: .ref h0 :: st) F := z_put pc pc' K 0 1 8 (C := RX1) (T := TX1) (N := 9) (ty := .int) (zput F 8 (fun _ => x)) in_X1 tyX1_ok nmX1 rfl rfl (by decide) q281 rfl rfl (by decide +kernel) rfl rfl (Nat.le_of_ble_eq_true rfl) rfl hdg hpc h
end Ry
end
section
/-! small words of the contracts -/
/-- the int r tells whether P -/
def zB (r : Int32) (P : Prop) : Prop := (r = 1 ∧ P) ∨ (r = 0 ∧ ¬ P)
theorem zB_0 {r : Int32} {P : Prop} (h : zB r P) (e : r = 0) : ¬ P := by
  rcases h with ⟨h, -⟩ | ⟨-, h⟩
  · rw [h] at e; exact absurd e (by decide)
  · exact h
theorem zB_1 {r : Int32} {P : Prop} (h : zB r P) (e : ¬ r = 0) : P := by
  rcases h with ⟨-, h⟩ | ⟨h, -⟩
  · exact h
  · exact absurd h e
theorem zB_t {P : Prop} (h : P) : zB 1 P := Or.inl ⟨rfl, h⟩
theorem zB_f {P : Prop} (h : ¬ P) : zB 0 P := Or.inr ⟨rfl, h⟩
theorem zB_n {r : Int32} {P : Prop} (h : zB r P) : narrow .boolean (.int r) = .int r := by
  rcases h with ⟨h, -⟩ | ⟨h, -⟩ <;> subst h <;> rfl
theorem zB_iff {r : Int32} {P Q : Prop} (e : P ↔ Q) (h : zB r P) : zB r Q := by
  rcases h with ⟨h, k⟩ | ⟨h, k⟩
  · exact Or.inl ⟨h, e.mp k⟩
  · exact Or.inr ⟨h, fun z => k (e.mpr z)⟩
def zbadR (a : Int32) : Prop := a < 0 ∨ 7 < a
def zbadA (a : Int32) : Prop := a < 0 ∨ 15 < a
theorem zbadR_in {a : Int32} (h : ¬ zbadR a) : vp_in a 8 := by
  have h1 : ¬ a < 0 := fun z => h (Or.inl z)
  have h2 : ¬ 7 < a := fun z => h (Or.inr z)
  rw [Int32.lt_iff_toInt_lt] at h1 h2
  rw [vp_in_iff]
  have e7 : (7 : Int32).toInt = 7 := by decide
  have e0 : (0 : Int32).toInt = 0 := by decide
  omega
theorem zbadA_in {a : Int32} (h : ¬ zbadA a) : vp_in a 16 := by
  have h1 : ¬ a < 0 := fun z => h (Or.inl z)
  have h2 : ¬ 15 < a := fun z => h (Or.inr z)
  rw [Int32.lt_iff_toInt_lt] at h1 h2
  rw [vp_in_iff]
  have e7 : (15 : Int32).toInt = 15 := by decide
  have e0 : (0 : Int32).toInt = 0 := by decide
  omega
theorem zle_of {a b : Int32} (h : ¬ a ≤ b) : b < a := by
  rw [Int32.le_iff_toInt_le] at h
  rw [Int32.lt_iff_toInt_lt]
  omega
theorem zlt_not {a b : Int32} (h : a ≤ b) : ¬ b < a := by
  rw [Int32.le_iff_toInt_le] at h
  rw [Int32.lt_iff_toInt_lt]
  omega
theorem zge_of {a b : Int32} (h : ¬ a < b) : b ≤ a := by
  rw [Int32.lt_iff_toInt_lt] at h
  rw [Int32.le_iff_toInt_le]
  omega
theorem znI_lit {x : Int32} {n k : Nat} (h : x = nI n) (e : x = nI k) (hn : n < 2 ^ 31) (hk : k < 2 ^ 31) : n = k := (nI_eq hn hk).mp (h.symm.trans e)
/-- instruction n written -/
def zapp (F : Nat → Nat → Int32) (n : Nat) (k d a b v : Int32) : Nat → Nat → Int32 := zput (zput (zput (zput (zput (zput (zput F 1 (upd (F 1) n k)) 2 (upd (F 2) n d)) 3 (upd (F 3) n a)) 4 (upd (F 4) n b)) 5 (upd (F 5) n v)) 0 (fun _ => nI (n + 1))) 10 (fun _ => 0)
/-- what append answers and leaves -/
def zApost (F : Nat → Nat → Int32) (n : Nat) (k d a b v r : Int32) (F' : Nat → Nat → Int32) : Prop := (n = 14 ∧ r = -2 ∧ F' = F) ∨ (n < 14 ∧ r = nI n ∧ F' = zapp F n k d a b v)
def zappM (F : Nat → Nat → Int32) (n : Nat) (k a b c : Int32) : Nat → Nat → Int32 := zput (zput (zput (zput (zput F 0 (upd (F 0) n k)) 1 (upd (F 1) n a)) 2 (upd (F 2) n b)) 3 (upd (F 3) n c)) 4 (fun _ => nI (n + 1))
def zMpost (F : Nat → Nat → Int32) (n : Nat) (k a b c r : Int32) (F' : Nat → Nat → Int32) : Prop := (n = 14 ∧ r = -2 ∧ F' = F) ∨ (n < 14 ∧ r = nI n ∧ F' = zappM F n k a b c)
/-- an answer of -1 with nothing done where P, else Q -/
def zbad (P : Prop) (F : Nat → Nat → Int32) (Q : Int32 → (Nat → Nat → Int32) → Prop) (r : Int32) (F' : Nat → Nat → Int32) : Prop := (P ∧ r = -1 ∧ F' = F) ∨ (¬ P ∧ Q r F')
end
section
/-! contracts of the small methods (printed by gen1.py) -/
set_option maxRecDepth 100000
set_option maxHeartbeats 4000000 in
set_option maxRecDepth 100000 in
theorem m_badReg (l : Launch) (D : va_G) (h0 : Nat) (ad : Nat → Nat) (cs : Nat → ClassId) (F : Nat → Nat → Int32) (a : Int32) : MI l yX0_badReg cX0_badReg 2 .boolean 0 0 D (tyX cs) (wX h0 ad cs) [.ref h0, .int a] F (fun r F' => zB r (zbadR a) ∧ F' = F) := by
  refine MI_start [(0, .ref h0), (1, .int a)] (by decide) (Nat.le_of_ble_eq_true rfl) rfl ?_
  intro Z K E
  refine z_iload_n 0 1 K 1 dX0_badReg_0 rfl rfl rfl ?_
  refine z_if_lt 1 4 10 K dX0_badReg_1 rfl (by decide) (fun c1 => ?_) (fun c1 => ?_)
  · refine z_iconst 10 11 K 1 dX0_badReg_10 rfl (by decide) ?_
    refine z_goto 11 15 K dX0_badReg_11 (by decide) ?_
    exact z_iret K E 15 dX0_badReg_15 rfl ⟨zB_t (by first | exact Or.inl c1 | exact Or.inr (zle_of c7)), rfl⟩
  · refine z_iload_n 4 5 K 1 dX0_badReg_4 rfl rfl rfl ?_
    refine z_bipush 5 7 K 7 dX0_badReg_5 rfl (by decide) ?_
    refine z_icmp_le 7 10 14 K dX0_badReg_7 rfl (by decide) (fun c7 => ?_) (fun c7 => ?_)
    · refine z_iconst 14 15 K 0 dX0_badReg_14 rfl (by decide) ?_
      exact z_iret K E 15 dX0_badReg_15 rfl ⟨zB_f (fun z => z.elim c1 (zlt_not c7)), rfl⟩
    · refine z_iconst 10 11 K 1 dX0_badReg_10 rfl (by decide) ?_
      refine z_goto 11 15 K dX0_badReg_11 (by decide) ?_
      exact z_iret K E 15 dX0_badReg_15 rfl ⟨zB_t (by first | exact Or.inl c1 | exact Or.inr (zle_of c7)), rfl⟩

set_option maxHeartbeats 4000000 in
set_option maxRecDepth 100000 in
theorem m_badAddress (l : Launch) (D : va_G) (h0 : Nat) (ad : Nat → Nat) (cs : Nat → ClassId) (F : Nat → Nat → Int32) (a : Int32) : MI l yX0_badAddress cX0_badAddress 2 .boolean 0 0 D (tyX cs) (wX h0 ad cs) [.ref h0, .int a] F (fun r F' => zB r (zbadA a) ∧ F' = F) := by
  refine MI_start [(0, .ref h0), (1, .int a)] (by decide) (Nat.le_of_ble_eq_true rfl) rfl ?_
  intro Z K E
  refine z_iload_n 0 1 K 1 dX0_badAddress_0 rfl rfl rfl ?_
  refine z_if_lt 1 4 10 K dX0_badAddress_1 rfl (by decide) (fun c1 => ?_) (fun c1 => ?_)
  · refine z_iconst 10 11 K 1 dX0_badAddress_10 rfl (by decide) ?_
    refine z_goto 11 15 K dX0_badAddress_11 (by decide) ?_
    exact z_iret K E 15 dX0_badAddress_15 rfl ⟨zB_t (by first | exact Or.inl c1 | exact Or.inr (zle_of c7)), rfl⟩
  · refine z_iload_n 4 5 K 1 dX0_badAddress_4 rfl rfl rfl ?_
    refine z_bipush 5 7 K 15 dX0_badAddress_5 rfl (by decide) ?_
    refine z_icmp_le 7 10 14 K dX0_badAddress_7 rfl (by decide) (fun c7 => ?_) (fun c7 => ?_)
    · refine z_iconst 14 15 K 0 dX0_badAddress_14 rfl (by decide) ?_
      exact z_iret K E 15 dX0_badAddress_15 rfl ⟨zB_f (fun z => z.elim c1 (zlt_not c7)), rfl⟩
    · refine z_iconst 10 11 K 1 dX0_badAddress_10 rfl (by decide) ?_
      refine z_goto 11 15 K dX0_badAddress_11 (by decide) ?_
      exact z_iret K E 15 dX0_badAddress_15 rfl ⟨zB_t (by first | exact Or.inl c1 | exact Or.inr (zle_of c7)), rfl⟩

set_option maxHeartbeats 4000000 in
set_option maxRecDepth 100000 in
theorem n_isRegister (l : Launch) (D : va_G) (h0 : Nat) (ad : Nat → Nat) (cs : Nat → ClassId) (F : Nat → Nat → Int32) (a : Int32) : MI l yX1_isRegister cX1_isRegister 2 .boolean 0 0 D (tyM cs) (wM h0 ad cs) [.ref h0, .int a] F (fun r F' => zB r (¬ zbadR a) ∧ F' = F) := by
  refine MI_start [(0, .ref h0), (1, .int a)] (by decide) (Nat.le_of_ble_eq_true rfl) rfl ?_
  intro Z K E
  refine z_iload_n 0 1 K 1 dX1_isRegister_0 rfl rfl rfl ?_
  refine z_if_lt 1 4 14 K dX1_isRegister_1 rfl (by decide) (fun c1 => ?_) (fun c1 => ?_)
  · refine z_iconst 14 15 K 0 dX1_isRegister_14 rfl (by decide) ?_
    exact z_iret K E 15 dX1_isRegister_15 rfl ⟨zB_f (fun z => z (by first | exact Or.inl c1 | exact Or.inr c7)), rfl⟩
  · refine z_iload_n 4 5 K 1 dX1_isRegister_4 rfl rfl rfl ?_
    refine z_bipush 5 7 K 7 dX1_isRegister_5 rfl (by decide) ?_
    refine z_icmp_gt 7 10 14 K dX1_isRegister_7 rfl (by decide) (fun c7 => ?_) (fun c7 => ?_)
    · refine z_iconst 14 15 K 0 dX1_isRegister_14 rfl (by decide) ?_
      exact z_iret K E 15 dX1_isRegister_15 rfl ⟨zB_f (fun z => z (by first | exact Or.inl c1 | exact Or.inr c7)), rfl⟩
    · refine z_iconst 10 11 K 1 dX1_isRegister_10 rfl (by decide) ?_
      refine z_goto 11 15 K dX1_isRegister_11 (by decide) ?_
      exact z_iret K E 15 dX1_isRegister_15 rfl ⟨zB_t (fun z => z.elim c1 c7), rfl⟩

set_option maxHeartbeats 4000000 in
set_option maxRecDepth 100000 in
theorem n_isAddress (l : Launch) (D : va_G) (h0 : Nat) (ad : Nat → Nat) (cs : Nat → ClassId) (F : Nat → Nat → Int32) (a : Int32) : MI l yX1_isAddress cX1_isAddress 2 .boolean 0 0 D (tyM cs) (wM h0 ad cs) [.ref h0, .int a] F (fun r F' => zB r (¬ zbadA a) ∧ F' = F) := by
  refine MI_start [(0, .ref h0), (1, .int a)] (by decide) (Nat.le_of_ble_eq_true rfl) rfl ?_
  intro Z K E
  refine z_iload_n 0 1 K 1 dX1_isAddress_0 rfl rfl rfl ?_
  refine z_if_lt 1 4 14 K dX1_isAddress_1 rfl (by decide) (fun c1 => ?_) (fun c1 => ?_)
  · refine z_iconst 14 15 K 0 dX1_isAddress_14 rfl (by decide) ?_
    exact z_iret K E 15 dX1_isAddress_15 rfl ⟨zB_f (fun z => z (by first | exact Or.inl c1 | exact Or.inr c7)), rfl⟩
  · refine z_iload_n 4 5 K 1 dX1_isAddress_4 rfl rfl rfl ?_
    refine z_bipush 5 7 K 15 dX1_isAddress_5 rfl (by decide) ?_
    refine z_icmp_gt 7 10 14 K dX1_isAddress_7 rfl (by decide) (fun c7 => ?_) (fun c7 => ?_)
    · refine z_iconst 14 15 K 0 dX1_isAddress_14 rfl (by decide) ?_
      exact z_iret K E 15 dX1_isAddress_15 rfl ⟨zB_f (fun z => z (by first | exact Or.inl c1 | exact Or.inr c7)), rfl⟩
    · refine z_iconst 10 11 K 1 dX1_isAddress_10 rfl (by decide) ?_
      refine z_goto 11 15 K dX1_isAddress_11 (by decide) ?_
      exact z_iret K E 15 dX1_isAddress_15 rfl ⟨zB_t (fun z => z.elim c1 c7), rfl⟩

set_option maxHeartbeats 4000000 in
set_option maxRecDepth 100000 in
theorem m_append (l : Launch) (D : va_G) (h0 : Nat) (ad : Nat → Nat) (cs : Nat → ClassId) (F : Nat → Nat → Int32) (n : Nat) (hn : F 0 0 = nI n) (h14 : n ≤ 14) (k d a b v : Int32) : MI l yX0_append cX0_append 6 .int 0 0 D (tyX cs) (wX h0 ad cs) [.ref h0, .int k, .int d, .int a, .int b, .int v] F (fun r F' => zApost F n k d a b v r F') := by
  refine MI_start [(0, .ref h0), (1, .int k), (2, .int d), (3, .int a), (4, .int b), (5, .int v)] (by decide) (Nat.le_of_ble_eq_true rfl) rfl ?_
  intro Z K E
  refine z_aload_n 0 1 K 0 dX0_append_0 rfl rfl rfl ?_
  refine xg_0 1 4 K dX0_append_1 rfl ?_
  refine z_bipush 4 6 K 14 dX0_append_4 rfl (by decide) ?_
  refine z_icmp_ne 6 9 12 K dX0_append_6 rfl (by decide) (fun c6 => ?_) (fun c6 => ?_)
  · refine z_aload_n 12 13 K 0 dX0_append_12 rfl rfl rfl ?_
    refine xg_1 13 16 K dX0_append_13 rfl ?_
    refine z_aload_n 16 17 K 0 dX0_append_16 rfl rfl rfl ?_
    refine xg_0 17 20 K dX0_append_17 rfl ?_
    refine z_iload_n 20 21 K 1 dX0_append_20 rfl rfl rfl ?_
    refine xs_1 21 22 K n hn (by rcases Nat.lt_or_ge n 14 with q | q; exact q; exact absurd (by rw [hn, show n = 14 by omega]; rfl) c6) dX0_append_21 rfl ?_
    refine z_aload_n 22 23 K 0 dX0_append_22 rfl rfl rfl ?_
    refine xg_2 23 26 K dX0_append_23 rfl ?_
    refine z_aload_n 26 27 K 0 dX0_append_26 rfl rfl rfl ?_
    refine xg_0 27 30 K dX0_append_27 rfl ?_
    refine z_iload_n 30 31 K 2 dX0_append_30 rfl rfl rfl ?_
    refine xs_2 31 32 K n hn (by rcases Nat.lt_or_ge n 14 with q | q; exact q; exact absurd (by rw [hn, show n = 14 by omega]; rfl) c6) dX0_append_31 rfl ?_
    refine z_aload_n 32 33 K 0 dX0_append_32 rfl rfl rfl ?_
    refine xg_3 33 36 K dX0_append_33 rfl ?_
    refine z_aload_n 36 37 K 0 dX0_append_36 rfl rfl rfl ?_
    refine xg_0 37 40 K dX0_append_37 rfl ?_
    refine z_iload_n 40 41 K 3 dX0_append_40 rfl rfl rfl ?_
    refine xs_3 41 42 K n hn (by rcases Nat.lt_or_ge n 14 with q | q; exact q; exact absurd (by rw [hn, show n = 14 by omega]; rfl) c6) dX0_append_41 rfl ?_
    refine z_aload_n 42 43 K 0 dX0_append_42 rfl rfl rfl ?_
    refine xg_4 43 46 K dX0_append_43 rfl ?_
    refine z_aload_n 46 47 K 0 dX0_append_46 rfl rfl rfl ?_
    refine xg_0 47 50 K dX0_append_47 rfl ?_
    refine z_iload 50 52 K 4 dX0_append_50 rfl rfl ?_
    refine xs_4 52 53 K n hn (by rcases Nat.lt_or_ge n 14 with q | q; exact q; exact absurd (by rw [hn, show n = 14 by omega]; rfl) c6) dX0_append_52 rfl ?_
    refine z_aload_n 53 54 K 0 dX0_append_53 rfl rfl rfl ?_
    refine xg_5 54 57 K dX0_append_54 rfl ?_
    refine z_aload_n 57 58 K 0 dX0_append_57 rfl rfl rfl ?_
    refine xg_0 58 61 K dX0_append_58 rfl ?_
    refine z_iload 61 63 K 5 dX0_append_61 rfl rfl ?_
    refine xs_5 63 64 K n hn (by rcases Nat.lt_or_ge n 14 with q | q; exact q; exact absurd (by rw [hn, show n = 14 by omega]; rfl) c6) dX0_append_63 rfl ?_
    refine z_aload_n 64 65 K 0 dX0_append_64 rfl rfl rfl ?_
    refine z_dup 65 66 K dX0_append_65 rfl rfl ?_
    refine xg_0 66 69 K dX0_append_66 rfl ?_
    refine z_iconst 69 70 K 1 dX0_append_69 rfl (by decide) ?_
    refine z_iadd 70 71 K dX0_append_70 rfl ?_
    refine z_top 71 (nI (n + 1)) ((congrArg (· + 1) hn).trans (nI_1 n)) ?_
    refine xp_0 71 74 K dX0_append_71 rfl ?_
    refine z_aload_n 74 75 K 0 dX0_append_74 rfl rfl rfl ?_
    refine z_iconst 75 76 K 0 dX0_append_75 rfl (by decide) ?_
    refine xp_10 76 79 K rfl rfl dX0_append_76 rfl ?_
    refine z_aload_n 79 80 K 0 dX0_append_79 rfl rfl rfl ?_
    refine xg_0 80 83 K dX0_append_80 rfl ?_
    refine z_iconst 83 84 K 1 dX0_append_83 rfl (by decide) ?_
    refine z_isub 84 85 K dX0_append_84 rfl ?_
    exact z_iret K E 85 dX0_append_85 rfl (Or.inr ⟨by rcases Nat.lt_or_ge n 14 with q | q; exact q; exact absurd (by rw [hn, show n = 14 by omega]; rfl) c6, nI_pred n, rfl⟩)
  · refine z_bipush 9 11 K (-2) dX0_append_9 rfl (by decide) ?_
    exact z_iret K E 11 dX0_append_11 rfl (Or.inl ⟨znI_lit hn c6 (by omega) (by decide), rfl, rfl⟩)

set_option maxHeartbeats 4000000 in
set_option maxRecDepth 100000 in
theorem n_append (l : Launch) (D : va_G) (h0 : Nat) (ad : Nat → Nat) (cs : Nat → ClassId) (F : Nat → Nat → Int32) (n : Nat) (hn : F 4 0 = nI n) (h14 : n ≤ 14) (k a b c : Int32) : MI l yX1_append cX1_append 5 .int 0 0 D (tyM cs) (wM h0 ad cs) [.ref h0, .int k, .int a, .int b, .int c] F (fun r F' => zMpost F n k a b c r F') := by
  refine MI_start [(0, .ref h0), (1, .int k), (2, .int a), (3, .int b), (4, .int c)] (by decide) (Nat.le_of_ble_eq_true rfl) rfl ?_
  intro Z K E
  refine z_aload_n 0 1 K 0 dX1_append_0 rfl rfl rfl ?_
  refine yg_4 1 4 K dX1_append_1 rfl ?_
  refine z_bipush 4 6 K 14 dX1_append_4 rfl (by decide) ?_
  refine z_icmp_ne 6 9 12 K dX1_append_6 rfl (by decide) (fun c6 => ?_) (fun c6 => ?_)
  · refine z_aload_n 12 13 K 0 dX1_append_12 rfl rfl rfl ?_
    refine yg_0 13 16 K dX1_append_13 rfl ?_
    refine z_aload_n 16 17 K 0 dX1_append_16 rfl rfl rfl ?_
    refine yg_4 17 20 K dX1_append_17 rfl ?_
    refine z_iload_n 20 21 K 1 dX1_append_20 rfl rfl rfl ?_
    refine ys_0 21 22 K n hn (by rcases Nat.lt_or_ge n 14 with q | q; exact q; exact absurd (by rw [hn, show n = 14 by omega]; rfl) c6) dX1_append_21 rfl ?_
    refine z_aload_n 22 23 K 0 dX1_append_22 rfl rfl rfl ?_
    refine yg_1 23 26 K dX1_append_23 rfl ?_
    refine z_aload_n 26 27 K 0 dX1_append_26 rfl rfl rfl ?_
    refine yg_4 27 30 K dX1_append_27 rfl ?_
    refine z_iload_n 30 31 K 2 dX1_append_30 rfl rfl rfl ?_
    refine ys_1 31 32 K n hn (by rcases Nat.lt_or_ge n 14 with q | q; exact q; exact absurd (by rw [hn, show n = 14 by omega]; rfl) c6) dX1_append_31 rfl ?_
    refine z_aload_n 32 33 K 0 dX1_append_32 rfl rfl rfl ?_
    refine yg_2 33 36 K dX1_append_33 rfl ?_
    refine z_aload_n 36 37 K 0 dX1_append_36 rfl rfl rfl ?_
    refine yg_4 37 40 K dX1_append_37 rfl ?_
    refine z_iload_n 40 41 K 3 dX1_append_40 rfl rfl rfl ?_
    refine ys_2 41 42 K n hn (by rcases Nat.lt_or_ge n 14 with q | q; exact q; exact absurd (by rw [hn, show n = 14 by omega]; rfl) c6) dX1_append_41 rfl ?_
    refine z_aload_n 42 43 K 0 dX1_append_42 rfl rfl rfl ?_
    refine yg_3 43 46 K dX1_append_43 rfl ?_
    refine z_aload_n 46 47 K 0 dX1_append_46 rfl rfl rfl ?_
    refine yg_4 47 50 K dX1_append_47 rfl ?_
    refine z_iload 50 52 K 4 dX1_append_50 rfl rfl ?_
    refine ys_3 52 53 K n hn (by rcases Nat.lt_or_ge n 14 with q | q; exact q; exact absurd (by rw [hn, show n = 14 by omega]; rfl) c6) dX1_append_52 rfl ?_
    refine z_aload_n 53 54 K 0 dX1_append_53 rfl rfl rfl ?_
    refine z_dup 54 55 K dX1_append_54 rfl rfl ?_
    refine yg_4 55 58 K dX1_append_55 rfl ?_
    refine z_iconst 58 59 K 1 dX1_append_58 rfl (by decide) ?_
    refine z_iadd 59 60 K dX1_append_59 rfl ?_
    refine z_top 60 (nI (n + 1)) ((congrArg (· + 1) hn).trans (nI_1 n)) ?_
    refine yp_4 60 63 K dX1_append_60 rfl ?_
    refine z_aload_n 63 64 K 0 dX1_append_63 rfl rfl rfl ?_
    refine yg_4 64 67 K dX1_append_64 rfl ?_
    refine z_iconst 67 68 K 1 dX1_append_67 rfl (by decide) ?_
    refine z_isub 68 69 K dX1_append_68 rfl ?_
    exact z_iret K E 69 dX1_append_69 rfl (Or.inr ⟨by rcases Nat.lt_or_ge n 14 with q | q; exact q; exact absurd (by rw [hn, show n = 14 by omega]; rfl) c6, nI_pred n, rfl⟩)
  · refine z_bipush 9 11 K (-2) dX1_append_9 rfl (by decide) ?_
    exact z_iret K E 11 dX1_append_11 rfl (Or.inl ⟨znI_lit hn c6 (by omega) (by decide), rfl, rfl⟩)

set_option maxHeartbeats 4000000 in
set_option maxRecDepth 100000 in
theorem m_constant (l : Launch) (D : va_G) (h0 : Nat) (ad : Nat → Nat) (cs : Nat → ClassId) (F : Nat → Nat → Int32) (n : Nat) (hn : F 0 0 = nI n) (h14 : n ≤ 14) (d v : Int32) : MI l yX0_constant cX0_constant 3 .int 1 25 D (tyX cs) (wX h0 ad cs) [.ref h0, .int d, .int v] F (zbad (zbadR d) F (zApost F n 0 d (-1) (-1) v)) := by
  refine MI_start [(0, .ref h0), (1, .int d), (2, .int v)] (by decide) (Nat.le_of_ble_eq_true rfl) rfl ?_
  intro Z K E
  refine z_aload_n 0 1 K 0 dX0_constant_0 rfl rfl rfl ?_
  refine z_iload_n 1 2 K 1 dX0_constant_1 rfl rfl rfl ?_
  refine z_calli (ci := 0) (q := (RX0, TX0, 23)) 2 5 1 K (m_badReg (zl Z) (zD Z) h0 ad cs _ d) (lw_V q114 q116 qs0 q28 q117) (by decide +kernel) ⟨by decide, by decide⟩ rfl rfl rfl rfl (Nat.le_of_ble_eq_true rfl) dX0_constant_2 rfl (fun r2 G2 h2 => ?_)
  obtain ⟨h2, e9⟩ := h2
  replace e9 := e9.symm
  subst e9
  refine z_if_eq 5 8 10 K dX0_constant_5 rfl (by decide) (fun c5 => ?_) (fun c5 => ?_)
  · have k0 := zB_0 h2 c5
    refine z_aload_n 10 11 K 0 dX0_constant_10 rfl rfl rfl ?_
    refine z_iconst 11 12 K 0 dX0_constant_11 rfl (by decide) ?_
    refine z_iload_n 12 13 K 1 dX0_constant_12 rfl rfl rfl ?_
    refine z_iconst 13 14 K (-1) dX0_constant_13 rfl (by decide) ?_
    refine z_iconst 14 15 K (-1) dX0_constant_14 rfl (by decide) ?_
    refine z_iload_n 15 16 K 2 dX0_constant_15 rfl rfl rfl ?_
    refine z_calli (ci := 0) (q := (RX0, TX0, 23)) 16 19 5 K (m_append (zl Z) (zD Z) h0 ad cs _ n hn h14 0 d (-1) (-1) v) (lw_V q118 q120 qs1 q28 q121) (by decide +kernel) ⟨by decide, by decide⟩ rfl rfl rfl rfl (Nat.le_of_ble_eq_true rfl) dX0_constant_16 rfl (fun r16 G16 h16 => ?_)
    exact z_iret K E 19 dX0_constant_19 rfl (Or.inr ⟨by first | (simp only [*, not_false_eq_true, or_self]; done) | (have := zlt_not c25; simp only [*, not_false_eq_true, or_self]), h16⟩)
  · have k0 := zB_1 h2 c5
    refine z_iconst 8 9 K (-1) dX0_constant_8 rfl (by decide) ?_
    exact z_iret K E 9 dX0_constant_9 rfl (Or.inl ⟨by first | (simp only [*, true_or, or_true]; done) | (have := zle_of c25; simp only [*, true_or, or_true]), rfl, rfl⟩)

set_option maxHeartbeats 4000000 in
set_option maxRecDepth 100000 in
theorem m_add (l : Launch) (D : va_G) (h0 : Nat) (ad : Nat → Nat) (cs : Nat → ClassId) (F : Nat → Nat → Int32) (n : Nat) (hn : F 0 0 = nI n) (h14 : n ≤ 14) (d a b : Int32) : MI l yX0_add cX0_add 4 .int 1 25 D (tyX cs) (wX h0 ad cs) [.ref h0, .int d, .int a, .int b] F (zbad (zbadR d ∨ zbadR a ∨ zbadR b) F (zApost F n 1 d a b 0)) := by
  refine MI_start [(0, .ref h0), (1, .int d), (2, .int a), (3, .int b)] (by decide) (Nat.le_of_ble_eq_true rfl) rfl ?_
  intro Z K E
  refine z_aload_n 0 1 K 0 dX0_add_0 rfl rfl rfl ?_
  refine z_iload_n 1 2 K 1 dX0_add_1 rfl rfl rfl ?_
  refine z_calli (ci := 0) (q := (RX0, TX0, 23)) 2 5 1 K (m_badReg (zl Z) (zD Z) h0 ad cs _ d) (lw_V q114 q116 qs0 q28 q117) (by decide +kernel) ⟨by decide, by decide⟩ rfl rfl rfl rfl (Nat.le_of_ble_eq_true rfl) dX0_add_2 rfl (fun r2 G2 h2 => ?_)
  obtain ⟨h2, e9⟩ := h2
  replace e9 := e9.symm
  subst e9
  refine z_if_ne 5 8 24 K dX0_add_5 rfl (by decide) (fun c5 => ?_) (fun c5 => ?_)
  · have k0 := zB_1 h2 c5
    refine z_iconst 24 25 K (-1) dX0_add_24 rfl (by decide) ?_
    exact z_iret K E 25 dX0_add_25 rfl (Or.inl ⟨by first | (simp only [*, true_or, or_true]; done) | (have := zle_of c25; simp only [*, true_or, or_true]), rfl, rfl⟩)
  · have k0 := zB_0 h2 c5
    refine z_aload_n 8 9 K 0 dX0_add_8 rfl rfl rfl ?_
    refine z_iload_n 9 10 K 2 dX0_add_9 rfl rfl rfl ?_
    refine z_calli (ci := 0) (q := (RX0, TX0, 23)) 10 13 1 K (m_badReg (zl Z) (zD Z) h0 ad cs _ a) (lw_V q114 q116 qs0 q28 q117) (by decide +kernel) ⟨by decide, by decide⟩ rfl rfl rfl rfl (Nat.le_of_ble_eq_true rfl) dX0_add_10 rfl (fun r10 G10 h10 => ?_)
    obtain ⟨h10, e9⟩ := h10
    replace e9 := e9.symm
    subst e9
    refine z_if_ne 13 16 24 K dX0_add_13 rfl (by decide) (fun c13 => ?_) (fun c13 => ?_)
    · have k1 := zB_1 h10 c13
      refine z_iconst 24 25 K (-1) dX0_add_24 rfl (by decide) ?_
      exact z_iret K E 25 dX0_add_25 rfl (Or.inl ⟨by first | (simp only [*, true_or, or_true]; done) | (have := zle_of c25; simp only [*, true_or, or_true]), rfl, rfl⟩)
    · have k1 := zB_0 h10 c13
      refine z_aload_n 16 17 K 0 dX0_add_16 rfl rfl rfl ?_
      refine z_iload_n 17 18 K 3 dX0_add_17 rfl rfl rfl ?_
      refine z_calli (ci := 0) (q := (RX0, TX0, 23)) 18 21 1 K (m_badReg (zl Z) (zD Z) h0 ad cs _ b) (lw_V q114 q116 qs0 q28 q117) (by decide +kernel) ⟨by decide, by decide⟩ rfl rfl rfl rfl (Nat.le_of_ble_eq_true rfl) dX0_add_18 rfl (fun r18 G18 h18 => ?_)
      obtain ⟨h18, e9⟩ := h18
      replace e9 := e9.symm
      subst e9
      refine z_if_eq 21 24 26 K dX0_add_21 rfl (by decide) (fun c21 => ?_) (fun c21 => ?_)
      · have k2 := zB_0 h18 c21
        refine z_aload_n 26 27 K 0 dX0_add_26 rfl rfl rfl ?_
        refine z_iconst 27 28 K 1 dX0_add_27 rfl (by decide) ?_
        refine z_iload_n 28 29 K 1 dX0_add_28 rfl rfl rfl ?_
        refine z_iload_n 29 30 K 2 dX0_add_29 rfl rfl rfl ?_
        refine z_iload_n 30 31 K 3 dX0_add_30 rfl rfl rfl ?_
        refine z_iconst 31 32 K 0 dX0_add_31 rfl (by decide) ?_
        refine z_calli (ci := 0) (q := (RX0, TX0, 23)) 32 35 5 K (m_append (zl Z) (zD Z) h0 ad cs _ n hn h14 1 d a b 0) (lw_V q118 q120 qs1 q28 q121) (by decide +kernel) ⟨by decide, by decide⟩ rfl rfl rfl rfl (Nat.le_of_ble_eq_true rfl) dX0_add_32 rfl (fun r32 G32 h32 => ?_)
        exact z_iret K E 35 dX0_add_35 rfl (Or.inr ⟨by first | (simp only [*, not_false_eq_true, or_self]; done) | (have := zlt_not c25; simp only [*, not_false_eq_true, or_self]), h32⟩)
      · have k2 := zB_1 h18 c21
        refine z_iconst 24 25 K (-1) dX0_add_24 rfl (by decide) ?_
        exact z_iret K E 25 dX0_add_25 rfl (Or.inl ⟨by first | (simp only [*, true_or, or_true]; done) | (have := zle_of c25; simp only [*, true_or, or_true]), rfl, rfl⟩)

set_option maxHeartbeats 4000000 in
set_option maxRecDepth 100000 in
theorem m_subtract (l : Launch) (D : va_G) (h0 : Nat) (ad : Nat → Nat) (cs : Nat → ClassId) (F : Nat → Nat → Int32) (n : Nat) (hn : F 0 0 = nI n) (h14 : n ≤ 14) (d a b : Int32) : MI l yX0_subtract cX0_subtract 4 .int 1 25 D (tyX cs) (wX h0 ad cs) [.ref h0, .int d, .int a, .int b] F (zbad (zbadR d ∨ zbadR a ∨ zbadR b) F (zApost F n 2 d a b 0)) := by
  refine MI_start [(0, .ref h0), (1, .int d), (2, .int a), (3, .int b)] (by decide) (Nat.le_of_ble_eq_true rfl) rfl ?_
  intro Z K E
  refine z_aload_n 0 1 K 0 dX0_subtract_0 rfl rfl rfl ?_
  refine z_iload_n 1 2 K 1 dX0_subtract_1 rfl rfl rfl ?_
  refine z_calli (ci := 0) (q := (RX0, TX0, 23)) 2 5 1 K (m_badReg (zl Z) (zD Z) h0 ad cs _ d) (lw_V q114 q116 qs0 q28 q117) (by decide +kernel) ⟨by decide, by decide⟩ rfl rfl rfl rfl (Nat.le_of_ble_eq_true rfl) dX0_subtract_2 rfl (fun r2 G2 h2 => ?_)
  obtain ⟨h2, e9⟩ := h2
  replace e9 := e9.symm
  subst e9
  refine z_if_ne 5 8 24 K dX0_subtract_5 rfl (by decide) (fun c5 => ?_) (fun c5 => ?_)
  · have k0 := zB_1 h2 c5
    refine z_iconst 24 25 K (-1) dX0_subtract_24 rfl (by decide) ?_
    exact z_iret K E 25 dX0_subtract_25 rfl (Or.inl ⟨by first | (simp only [*, true_or, or_true]; done) | (have := zle_of c25; simp only [*, true_or, or_true]), rfl, rfl⟩)
  · have k0 := zB_0 h2 c5
    refine z_aload_n 8 9 K 0 dX0_subtract_8 rfl rfl rfl ?_
    refine z_iload_n 9 10 K 2 dX0_subtract_9 rfl rfl rfl ?_
    refine z_calli (ci := 0) (q := (RX0, TX0, 23)) 10 13 1 K (m_badReg (zl Z) (zD Z) h0 ad cs _ a) (lw_V q114 q116 qs0 q28 q117) (by decide +kernel) ⟨by decide, by decide⟩ rfl rfl rfl rfl (Nat.le_of_ble_eq_true rfl) dX0_subtract_10 rfl (fun r10 G10 h10 => ?_)
    obtain ⟨h10, e9⟩ := h10
    replace e9 := e9.symm
    subst e9
    refine z_if_ne 13 16 24 K dX0_subtract_13 rfl (by decide) (fun c13 => ?_) (fun c13 => ?_)
    · have k1 := zB_1 h10 c13
      refine z_iconst 24 25 K (-1) dX0_subtract_24 rfl (by decide) ?_
      exact z_iret K E 25 dX0_subtract_25 rfl (Or.inl ⟨by first | (simp only [*, true_or, or_true]; done) | (have := zle_of c25; simp only [*, true_or, or_true]), rfl, rfl⟩)
    · have k1 := zB_0 h10 c13
      refine z_aload_n 16 17 K 0 dX0_subtract_16 rfl rfl rfl ?_
      refine z_iload_n 17 18 K 3 dX0_subtract_17 rfl rfl rfl ?_
      refine z_calli (ci := 0) (q := (RX0, TX0, 23)) 18 21 1 K (m_badReg (zl Z) (zD Z) h0 ad cs _ b) (lw_V q114 q116 qs0 q28 q117) (by decide +kernel) ⟨by decide, by decide⟩ rfl rfl rfl rfl (Nat.le_of_ble_eq_true rfl) dX0_subtract_18 rfl (fun r18 G18 h18 => ?_)
      obtain ⟨h18, e9⟩ := h18
      replace e9 := e9.symm
      subst e9
      refine z_if_eq 21 24 26 K dX0_subtract_21 rfl (by decide) (fun c21 => ?_) (fun c21 => ?_)
      · have k2 := zB_0 h18 c21
        refine z_aload_n 26 27 K 0 dX0_subtract_26 rfl rfl rfl ?_
        refine z_iconst 27 28 K 2 dX0_subtract_27 rfl (by decide) ?_
        refine z_iload_n 28 29 K 1 dX0_subtract_28 rfl rfl rfl ?_
        refine z_iload_n 29 30 K 2 dX0_subtract_29 rfl rfl rfl ?_
        refine z_iload_n 30 31 K 3 dX0_subtract_30 rfl rfl rfl ?_
        refine z_iconst 31 32 K 0 dX0_subtract_31 rfl (by decide) ?_
        refine z_calli (ci := 0) (q := (RX0, TX0, 23)) 32 35 5 K (m_append (zl Z) (zD Z) h0 ad cs _ n hn h14 2 d a b 0) (lw_V q118 q120 qs1 q28 q121) (by decide +kernel) ⟨by decide, by decide⟩ rfl rfl rfl rfl (Nat.le_of_ble_eq_true rfl) dX0_subtract_32 rfl (fun r32 G32 h32 => ?_)
        exact z_iret K E 35 dX0_subtract_35 rfl (Or.inr ⟨by first | (simp only [*, not_false_eq_true, or_self]; done) | (have := zlt_not c25; simp only [*, not_false_eq_true, or_self]), h32⟩)
      · have k2 := zB_1 h18 c21
        refine z_iconst 24 25 K (-1) dX0_subtract_24 rfl (by decide) ?_
        exact z_iret K E 25 dX0_subtract_25 rfl (Or.inl ⟨by first | (simp only [*, true_or, or_true]; done) | (have := zle_of c25; simp only [*, true_or, or_true]), rfl, rfl⟩)

set_option maxHeartbeats 4000000 in
set_option maxRecDepth 100000 in
theorem m_load (l : Launch) (D : va_G) (h0 : Nat) (ad : Nat → Nat) (cs : Nat → ClassId) (F : Nat → Nat → Int32) (n : Nat) (hn : F 0 0 = nI n) (h14 : n ≤ 14) (d a o : Int32) : MI l yX0_load cX0_load 4 .int 1 25 D (tyX cs) (wX h0 ad cs) [.ref h0, .int d, .int a, .int o] F (zbad (zbadR d ∨ zbadR a ∨ o < -8 ∨ 15 < o) F (zApost F n 3 d a (-1) o)) := by
  refine MI_start [(0, .ref h0), (1, .int d), (2, .int a), (3, .int o)] (by decide) (Nat.le_of_ble_eq_true rfl) rfl ?_
  intro Z K E
  refine z_aload_n 0 1 K 0 dX0_load_0 rfl rfl rfl ?_
  refine z_iload_n 1 2 K 1 dX0_load_1 rfl rfl rfl ?_
  refine z_calli (ci := 0) (q := (RX0, TX0, 23)) 2 5 1 K (m_badReg (zl Z) (zD Z) h0 ad cs _ d) (lw_V q114 q116 qs0 q28 q117) (by decide +kernel) ⟨by decide, by decide⟩ rfl rfl rfl rfl (Nat.le_of_ble_eq_true rfl) dX0_load_2 rfl (fun r2 G2 h2 => ?_)
  obtain ⟨h2, e9⟩ := h2
  replace e9 := e9.symm
  subst e9
  refine z_if_ne 5 8 28 K dX0_load_5 rfl (by decide) (fun c5 => ?_) (fun c5 => ?_)
  · have k0 := zB_1 h2 c5
    refine z_iconst 28 29 K (-1) dX0_load_28 rfl (by decide) ?_
    exact z_iret K E 29 dX0_load_29 rfl (Or.inl ⟨by first | (simp only [*, true_or, or_true]; done) | (have := zle_of c25; simp only [*, true_or, or_true]), rfl, rfl⟩)
  · have k0 := zB_0 h2 c5
    refine z_aload_n 8 9 K 0 dX0_load_8 rfl rfl rfl ?_
    refine z_iload_n 9 10 K 2 dX0_load_9 rfl rfl rfl ?_
    refine z_calli (ci := 0) (q := (RX0, TX0, 23)) 10 13 1 K (m_badReg (zl Z) (zD Z) h0 ad cs _ a) (lw_V q114 q116 qs0 q28 q117) (by decide +kernel) ⟨by decide, by decide⟩ rfl rfl rfl rfl (Nat.le_of_ble_eq_true rfl) dX0_load_10 rfl (fun r10 G10 h10 => ?_)
    obtain ⟨h10, e9⟩ := h10
    replace e9 := e9.symm
    subst e9
    refine z_if_ne 13 16 28 K dX0_load_13 rfl (by decide) (fun c13 => ?_) (fun c13 => ?_)
    · have k1 := zB_1 h10 c13
      refine z_iconst 28 29 K (-1) dX0_load_28 rfl (by decide) ?_
      exact z_iret K E 29 dX0_load_29 rfl (Or.inl ⟨by first | (simp only [*, true_or, or_true]; done) | (have := zle_of c25; simp only [*, true_or, or_true]), rfl, rfl⟩)
    · have k1 := zB_0 h10 c13
      refine z_iload_n 16 17 K 3 dX0_load_16 rfl rfl rfl ?_
      refine z_bipush 17 19 K (-8) dX0_load_17 rfl (by decide) ?_
      refine z_icmp_lt 19 22 28 K dX0_load_19 rfl (by decide) (fun c19 => ?_) (fun c19 => ?_)
      · refine z_iconst 28 29 K (-1) dX0_load_28 rfl (by decide) ?_
        exact z_iret K E 29 dX0_load_29 rfl (Or.inl ⟨by first | (simp only [*, true_or, or_true]; done) | (have := zle_of c25; simp only [*, true_or, or_true]), rfl, rfl⟩)
      · refine z_iload_n 22 23 K 3 dX0_load_22 rfl rfl rfl ?_
        refine z_bipush 23 25 K 15 dX0_load_23 rfl (by decide) ?_
        refine z_icmp_le 25 28 30 K dX0_load_25 rfl (by decide) (fun c25 => ?_) (fun c25 => ?_)
        · refine z_aload_n 30 31 K 0 dX0_load_30 rfl rfl rfl ?_
          refine z_iconst 31 32 K 3 dX0_load_31 rfl (by decide) ?_
          refine z_iload_n 32 33 K 1 dX0_load_32 rfl rfl rfl ?_
          refine z_iload_n 33 34 K 2 dX0_load_33 rfl rfl rfl ?_
          refine z_iconst 34 35 K (-1) dX0_load_34 rfl (by decide) ?_
          refine z_iload_n 35 36 K 3 dX0_load_35 rfl rfl rfl ?_
          refine z_calli (ci := 0) (q := (RX0, TX0, 23)) 36 39 5 K (m_append (zl Z) (zD Z) h0 ad cs _ n hn h14 3 d a (-1) o) (lw_V q118 q120 qs1 q28 q121) (by decide +kernel) ⟨by decide, by decide⟩ rfl rfl rfl rfl (Nat.le_of_ble_eq_true rfl) dX0_load_36 rfl (fun r36 G36 h36 => ?_)
          exact z_iret K E 39 dX0_load_39 rfl (Or.inr ⟨by first | (simp only [*, not_false_eq_true, or_self]; done) | (have := zlt_not c25; simp only [*, not_false_eq_true, or_self]), h36⟩)
        · refine z_iconst 28 29 K (-1) dX0_load_28 rfl (by decide) ?_
          exact z_iret K E 29 dX0_load_29 rfl (Or.inl ⟨by first | (simp only [*, true_or, or_true]; done) | (have := zle_of c25; simp only [*, true_or, or_true]), rfl, rfl⟩)

set_option maxHeartbeats 4000000 in
set_option maxRecDepth 100000 in
theorem m_store (l : Launch) (D : va_G) (h0 : Nat) (ad : Nat → Nat) (cs : Nat → ClassId) (F : Nat → Nat → Int32) (n : Nat) (hn : F 0 0 = nI n) (h14 : n ≤ 14) (a o s : Int32) : MI l yX0_store cX0_store 4 .int 1 25 D (tyX cs) (wX h0 ad cs) [.ref h0, .int a, .int o, .int s] F (zbad (zbadR a ∨ zbadR s ∨ o < -8 ∨ 15 < o) F (zApost F n 4 (-1) a s o)) := by
  refine MI_start [(0, .ref h0), (1, .int a), (2, .int o), (3, .int s)] (by decide) (Nat.le_of_ble_eq_true rfl) rfl ?_
  intro Z K E
  refine z_aload_n 0 1 K 0 dX0_store_0 rfl rfl rfl ?_
  refine z_iload_n 1 2 K 1 dX0_store_1 rfl rfl rfl ?_
  refine z_calli (ci := 0) (q := (RX0, TX0, 23)) 2 5 1 K (m_badReg (zl Z) (zD Z) h0 ad cs _ a) (lw_V q114 q116 qs0 q28 q117) (by decide +kernel) ⟨by decide, by decide⟩ rfl rfl rfl rfl (Nat.le_of_ble_eq_true rfl) dX0_store_2 rfl (fun r2 G2 h2 => ?_)
  obtain ⟨h2, e9⟩ := h2
  replace e9 := e9.symm
  subst e9
  refine z_if_ne 5 8 28 K dX0_store_5 rfl (by decide) (fun c5 => ?_) (fun c5 => ?_)
  · have k0 := zB_1 h2 c5
    refine z_iconst 28 29 K (-1) dX0_store_28 rfl (by decide) ?_
    exact z_iret K E 29 dX0_store_29 rfl (Or.inl ⟨by first | (simp only [*, true_or, or_true]; done) | (have := zle_of c25; simp only [*, true_or, or_true]), rfl, rfl⟩)
  · have k0 := zB_0 h2 c5
    refine z_aload_n 8 9 K 0 dX0_store_8 rfl rfl rfl ?_
    refine z_iload_n 9 10 K 3 dX0_store_9 rfl rfl rfl ?_
    refine z_calli (ci := 0) (q := (RX0, TX0, 23)) 10 13 1 K (m_badReg (zl Z) (zD Z) h0 ad cs _ s) (lw_V q114 q116 qs0 q28 q117) (by decide +kernel) ⟨by decide, by decide⟩ rfl rfl rfl rfl (Nat.le_of_ble_eq_true rfl) dX0_store_10 rfl (fun r10 G10 h10 => ?_)
    obtain ⟨h10, e9⟩ := h10
    replace e9 := e9.symm
    subst e9
    refine z_if_ne 13 16 28 K dX0_store_13 rfl (by decide) (fun c13 => ?_) (fun c13 => ?_)
    · have k1 := zB_1 h10 c13
      refine z_iconst 28 29 K (-1) dX0_store_28 rfl (by decide) ?_
      exact z_iret K E 29 dX0_store_29 rfl (Or.inl ⟨by first | (simp only [*, true_or, or_true]; done) | (have := zle_of c25; simp only [*, true_or, or_true]), rfl, rfl⟩)
    · have k1 := zB_0 h10 c13
      refine z_iload_n 16 17 K 2 dX0_store_16 rfl rfl rfl ?_
      refine z_bipush 17 19 K (-8) dX0_store_17 rfl (by decide) ?_
      refine z_icmp_lt 19 22 28 K dX0_store_19 rfl (by decide) (fun c19 => ?_) (fun c19 => ?_)
      · refine z_iconst 28 29 K (-1) dX0_store_28 rfl (by decide) ?_
        exact z_iret K E 29 dX0_store_29 rfl (Or.inl ⟨by first | (simp only [*, true_or, or_true]; done) | (have := zle_of c25; simp only [*, true_or, or_true]), rfl, rfl⟩)
      · refine z_iload_n 22 23 K 2 dX0_store_22 rfl rfl rfl ?_
        refine z_bipush 23 25 K 15 dX0_store_23 rfl (by decide) ?_
        refine z_icmp_le 25 28 30 K dX0_store_25 rfl (by decide) (fun c25 => ?_) (fun c25 => ?_)
        · refine z_aload_n 30 31 K 0 dX0_store_30 rfl rfl rfl ?_
          refine z_iconst 31 32 K 4 dX0_store_31 rfl (by decide) ?_
          refine z_iconst 32 33 K (-1) dX0_store_32 rfl (by decide) ?_
          refine z_iload_n 33 34 K 1 dX0_store_33 rfl rfl rfl ?_
          refine z_iload_n 34 35 K 3 dX0_store_34 rfl rfl rfl ?_
          refine z_iload_n 35 36 K 2 dX0_store_35 rfl rfl rfl ?_
          refine z_calli (ci := 0) (q := (RX0, TX0, 23)) 36 39 5 K (m_append (zl Z) (zD Z) h0 ad cs _ n hn h14 4 (-1) a s o) (lw_V q118 q120 qs1 q28 q121) (by decide +kernel) ⟨by decide, by decide⟩ rfl rfl rfl rfl (Nat.le_of_ble_eq_true rfl) dX0_store_36 rfl (fun r36 G36 h36 => ?_)
          exact z_iret K E 39 dX0_store_39 rfl (Or.inr ⟨by first | (simp only [*, not_false_eq_true, or_self]; done) | (have := zlt_not c25; simp only [*, not_false_eq_true, or_self]), h36⟩)
        · refine z_iconst 28 29 K (-1) dX0_store_28 rfl (by decide) ?_
          exact z_iret K E 29 dX0_store_29 rfl (Or.inl ⟨by first | (simp only [*, true_or, or_true]; done) | (have := zle_of c25; simp only [*, true_or, or_true]), rfl, rfl⟩)

set_option maxHeartbeats 4000000 in
set_option maxRecDepth 100000 in
theorem m_leave (l : Launch) (D : va_G) (h0 : Nat) (ad : Nat → Nat) (cs : Nat → ClassId) (F : Nat → Nat → Int32) (n : Nat) (hn : F 0 0 = nI n) (h14 : n ≤ 14) (a : Int32) : MI l yX0_leave cX0_leave 2 .int 1 25 D (tyX cs) (wX h0 ad cs) [.ref h0, .int a] F (zbad (zbadR a) F (zApost F n 5 (-1) a (-1) 0)) := by
  refine MI_start [(0, .ref h0), (1, .int a)] (by decide) (Nat.le_of_ble_eq_true rfl) rfl ?_
  intro Z K E
  refine z_aload_n 0 1 K 0 dX0_leave_0 rfl rfl rfl ?_
  refine z_iload_n 1 2 K 1 dX0_leave_1 rfl rfl rfl ?_
  refine z_calli (ci := 0) (q := (RX0, TX0, 23)) 2 5 1 K (m_badReg (zl Z) (zD Z) h0 ad cs _ a) (lw_V q114 q116 qs0 q28 q117) (by decide +kernel) ⟨by decide, by decide⟩ rfl rfl rfl rfl (Nat.le_of_ble_eq_true rfl) dX0_leave_2 rfl (fun r2 G2 h2 => ?_)
  obtain ⟨h2, e9⟩ := h2
  replace e9 := e9.symm
  subst e9
  refine z_if_eq 5 8 10 K dX0_leave_5 rfl (by decide) (fun c5 => ?_) (fun c5 => ?_)
  · have k0 := zB_0 h2 c5
    refine z_aload_n 10 11 K 0 dX0_leave_10 rfl rfl rfl ?_
    refine z_iconst 11 12 K 5 dX0_leave_11 rfl (by decide) ?_
    refine z_iconst 12 13 K (-1) dX0_leave_12 rfl (by decide) ?_
    refine z_iload_n 13 14 K 1 dX0_leave_13 rfl rfl rfl ?_
    refine z_iconst 14 15 K (-1) dX0_leave_14 rfl (by decide) ?_
    refine z_iconst 15 16 K 0 dX0_leave_15 rfl (by decide) ?_
    refine z_calli (ci := 0) (q := (RX0, TX0, 23)) 16 19 5 K (m_append (zl Z) (zD Z) h0 ad cs _ n hn h14 5 (-1) a (-1) 0) (lw_V q118 q120 qs1 q28 q121) (by decide +kernel) ⟨by decide, by decide⟩ rfl rfl rfl rfl (Nat.le_of_ble_eq_true rfl) dX0_leave_16 rfl (fun r16 G16 h16 => ?_)
    exact z_iret K E 19 dX0_leave_19 rfl (Or.inr ⟨by first | (simp only [*, not_false_eq_true, or_self]; done) | (have := zlt_not c25; simp only [*, not_false_eq_true, or_self]), h16⟩)
  · have k0 := zB_1 h2 c5
    refine z_iconst 8 9 K (-1) dX0_leave_8 rfl (by decide) ?_
    exact z_iret K E 9 dX0_leave_9 rfl (Or.inl ⟨by first | (simp only [*, true_or, or_true]; done) | (have := zle_of c25; simp only [*, true_or, or_true]), rfl, rfl⟩)

set_option maxHeartbeats 4000000 in
set_option maxRecDepth 100000 in
theorem n_constant (l : Launch) (D : va_G) (h0 : Nat) (ad : Nat → Nat) (cs : Nat → ClassId) (F : Nat → Nat → Int32) (n : Nat) (hn : F 4 0 = nI n) (h14 : n ≤ 14) (d v : Int32) : MI l yX1_constant cX1_constant 3 .int 1 24 D (tyM cs) (wM h0 ad cs) [.ref h0, .int d, .int v] F (zbad (zbadR d) F (zMpost F n 0 d v 0)) := by
  refine MI_start [(0, .ref h0), (1, .int d), (2, .int v)] (by decide) (Nat.le_of_ble_eq_true rfl) rfl ?_
  intro Z K E
  refine z_aload_n 0 1 K 0 dX1_constant_0 rfl rfl rfl ?_
  refine z_iload_n 1 2 K 1 dX1_constant_1 rfl rfl rfl ?_
  refine z_calli (ci := 1) (q := (RX1, TX1, 9)) 2 5 1 K (n_isRegister (zl Z) (zD Z) h0 ad cs _ d) (lw_V q305 q307 qs23 q29 q308) (by decide +kernel) ⟨by decide, by decide⟩ rfl rfl rfl rfl (Nat.le_of_ble_eq_true rfl) dX1_constant_2 rfl (fun r2 G2 h2 => ?_)
  obtain ⟨h2, e9⟩ := h2
  replace e9 := e9.symm
  subst e9
  refine z_if_ne 5 8 10 K dX1_constant_5 rfl (by decide) (fun c5 => ?_) (fun c5 => ?_)
  · have k0 : ¬ zbadR d := zB_1 h2 c5
    refine z_aload_n 10 11 K 0 dX1_constant_10 rfl rfl rfl ?_
    refine z_iconst 11 12 K 0 dX1_constant_11 rfl (by decide) ?_
    refine z_iload_n 12 13 K 1 dX1_constant_12 rfl rfl rfl ?_
    refine z_iload_n 13 14 K 2 dX1_constant_13 rfl rfl rfl ?_
    refine z_iconst 14 15 K 0 dX1_constant_14 rfl (by decide) ?_
    refine z_calli (ci := 1) (q := (RX1, TX1, 9)) 15 18 4 K (n_append (zl Z) (zD Z) h0 ad cs _ n hn h14 0 d v 0) (lw_V q309 q311 qs24 q29 q312) (by decide +kernel) ⟨by decide, by decide⟩ rfl rfl rfl rfl (Nat.le_of_ble_eq_true rfl) dX1_constant_15 rfl (fun r15 G15 h15 => ?_)
    exact z_iret K E 18 dX1_constant_18 rfl (Or.inr ⟨by first | (simp only [*, not_false_eq_true, or_self]; done) | (have := zlt_not c25; simp only [*, not_false_eq_true, or_self]), h15⟩)
  · have k0 :  zbadR d := Classical.not_not.mp (zB_0 h2 c5)
    refine z_iconst 8 9 K (-1) dX1_constant_8 rfl (by decide) ?_
    exact z_iret K E 9 dX1_constant_9 rfl (Or.inl ⟨by first | (simp only [*, true_or, or_true]; done) | (have := zle_of c25; simp only [*, true_or, or_true]), rfl, rfl⟩)

set_option maxHeartbeats 4000000 in
set_option maxRecDepth 100000 in
theorem n_add (l : Launch) (D : va_G) (h0 : Nat) (ad : Nat → Nat) (cs : Nat → ClassId) (F : Nat → Nat → Int32) (n : Nat) (hn : F 4 0 = nI n) (h14 : n ≤ 14) (d a b : Int32) : MI l yX1_add cX1_add 4 .int 1 24 D (tyM cs) (wM h0 ad cs) [.ref h0, .int d, .int a, .int b] F (zbad (zbadR d ∨ zbadR a ∨ zbadR b) F (zMpost F n 1 d a b)) := by
  refine MI_start [(0, .ref h0), (1, .int d), (2, .int a), (3, .int b)] (by decide) (Nat.le_of_ble_eq_true rfl) rfl ?_
  intro Z K E
  refine z_aload_n 0 1 K 0 dX1_add_0 rfl rfl rfl ?_
  refine z_iload_n 1 2 K 1 dX1_add_1 rfl rfl rfl ?_
  refine z_calli (ci := 1) (q := (RX1, TX1, 9)) 2 5 1 K (n_isRegister (zl Z) (zD Z) h0 ad cs _ d) (lw_V q305 q307 qs23 q29 q308) (by decide +kernel) ⟨by decide, by decide⟩ rfl rfl rfl rfl (Nat.le_of_ble_eq_true rfl) dX1_add_2 rfl (fun r2 G2 h2 => ?_)
  obtain ⟨h2, e9⟩ := h2
  replace e9 := e9.symm
  subst e9
  refine z_if_eq 5 8 24 K dX1_add_5 rfl (by decide) (fun c5 => ?_) (fun c5 => ?_)
  · have k0 :  zbadR d := Classical.not_not.mp (zB_0 h2 c5)
    refine z_iconst 24 25 K (-1) dX1_add_24 rfl (by decide) ?_
    exact z_iret K E 25 dX1_add_25 rfl (Or.inl ⟨by first | (simp only [*, true_or, or_true]; done) | (have := zle_of c25; simp only [*, true_or, or_true]), rfl, rfl⟩)
  · have k0 : ¬ zbadR d := zB_1 h2 c5
    refine z_aload_n 8 9 K 0 dX1_add_8 rfl rfl rfl ?_
    refine z_iload_n 9 10 K 2 dX1_add_9 rfl rfl rfl ?_
    refine z_calli (ci := 1) (q := (RX1, TX1, 9)) 10 13 1 K (n_isRegister (zl Z) (zD Z) h0 ad cs _ a) (lw_V q305 q307 qs23 q29 q308) (by decide +kernel) ⟨by decide, by decide⟩ rfl rfl rfl rfl (Nat.le_of_ble_eq_true rfl) dX1_add_10 rfl (fun r10 G10 h10 => ?_)
    obtain ⟨h10, e9⟩ := h10
    replace e9 := e9.symm
    subst e9
    refine z_if_eq 13 16 24 K dX1_add_13 rfl (by decide) (fun c13 => ?_) (fun c13 => ?_)
    · have k1 :  zbadR a := Classical.not_not.mp (zB_0 h10 c13)
      refine z_iconst 24 25 K (-1) dX1_add_24 rfl (by decide) ?_
      exact z_iret K E 25 dX1_add_25 rfl (Or.inl ⟨by first | (simp only [*, true_or, or_true]; done) | (have := zle_of c25; simp only [*, true_or, or_true]), rfl, rfl⟩)
    · have k1 : ¬ zbadR a := zB_1 h10 c13
      refine z_aload_n 16 17 K 0 dX1_add_16 rfl rfl rfl ?_
      refine z_iload_n 17 18 K 3 dX1_add_17 rfl rfl rfl ?_
      refine z_calli (ci := 1) (q := (RX1, TX1, 9)) 18 21 1 K (n_isRegister (zl Z) (zD Z) h0 ad cs _ b) (lw_V q305 q307 qs23 q29 q308) (by decide +kernel) ⟨by decide, by decide⟩ rfl rfl rfl rfl (Nat.le_of_ble_eq_true rfl) dX1_add_18 rfl (fun r18 G18 h18 => ?_)
      obtain ⟨h18, e9⟩ := h18
      replace e9 := e9.symm
      subst e9
      refine z_if_ne 21 24 26 K dX1_add_21 rfl (by decide) (fun c21 => ?_) (fun c21 => ?_)
      · have k2 : ¬ zbadR b := zB_1 h18 c21
        refine z_aload_n 26 27 K 0 dX1_add_26 rfl rfl rfl ?_
        refine z_iconst 27 28 K 1 dX1_add_27 rfl (by decide) ?_
        refine z_iload_n 28 29 K 1 dX1_add_28 rfl rfl rfl ?_
        refine z_iload_n 29 30 K 2 dX1_add_29 rfl rfl rfl ?_
        refine z_iload_n 30 31 K 3 dX1_add_30 rfl rfl rfl ?_
        refine z_calli (ci := 1) (q := (RX1, TX1, 9)) 31 34 4 K (n_append (zl Z) (zD Z) h0 ad cs _ n hn h14 1 d a b) (lw_V q309 q311 qs24 q29 q312) (by decide +kernel) ⟨by decide, by decide⟩ rfl rfl rfl rfl (Nat.le_of_ble_eq_true rfl) dX1_add_31 rfl (fun r31 G31 h31 => ?_)
        exact z_iret K E 34 dX1_add_34 rfl (Or.inr ⟨by first | (simp only [*, not_false_eq_true, or_self]; done) | (have := zlt_not c25; simp only [*, not_false_eq_true, or_self]), h31⟩)
      · have k2 :  zbadR b := Classical.not_not.mp (zB_0 h18 c21)
        refine z_iconst 24 25 K (-1) dX1_add_24 rfl (by decide) ?_
        exact z_iret K E 25 dX1_add_25 rfl (Or.inl ⟨by first | (simp only [*, true_or, or_true]; done) | (have := zle_of c25; simp only [*, true_or, or_true]), rfl, rfl⟩)

set_option maxHeartbeats 4000000 in
set_option maxRecDepth 100000 in
theorem n_subtract (l : Launch) (D : va_G) (h0 : Nat) (ad : Nat → Nat) (cs : Nat → ClassId) (F : Nat → Nat → Int32) (n : Nat) (hn : F 4 0 = nI n) (h14 : n ≤ 14) (d a b : Int32) : MI l yX1_subtract cX1_subtract 4 .int 1 24 D (tyM cs) (wM h0 ad cs) [.ref h0, .int d, .int a, .int b] F (zbad (zbadR d ∨ zbadR a ∨ zbadR b) F (zMpost F n 2 d a b)) := by
  refine MI_start [(0, .ref h0), (1, .int d), (2, .int a), (3, .int b)] (by decide) (Nat.le_of_ble_eq_true rfl) rfl ?_
  intro Z K E
  refine z_aload_n 0 1 K 0 dX1_subtract_0 rfl rfl rfl ?_
  refine z_iload_n 1 2 K 1 dX1_subtract_1 rfl rfl rfl ?_
  refine z_calli (ci := 1) (q := (RX1, TX1, 9)) 2 5 1 K (n_isRegister (zl Z) (zD Z) h0 ad cs _ d) (lw_V q305 q307 qs23 q29 q308) (by decide +kernel) ⟨by decide, by decide⟩ rfl rfl rfl rfl (Nat.le_of_ble_eq_true rfl) dX1_subtract_2 rfl (fun r2 G2 h2 => ?_)
  obtain ⟨h2, e9⟩ := h2
  replace e9 := e9.symm
  subst e9
  refine z_if_eq 5 8 24 K dX1_subtract_5 rfl (by decide) (fun c5 => ?_) (fun c5 => ?_)
  · have k0 :  zbadR d := Classical.not_not.mp (zB_0 h2 c5)
    refine z_iconst 24 25 K (-1) dX1_subtract_24 rfl (by decide) ?_
    exact z_iret K E 25 dX1_subtract_25 rfl (Or.inl ⟨by first | (simp only [*, true_or, or_true]; done) | (have := zle_of c25; simp only [*, true_or, or_true]), rfl, rfl⟩)
  · have k0 : ¬ zbadR d := zB_1 h2 c5
    refine z_aload_n 8 9 K 0 dX1_subtract_8 rfl rfl rfl ?_
    refine z_iload_n 9 10 K 2 dX1_subtract_9 rfl rfl rfl ?_
    refine z_calli (ci := 1) (q := (RX1, TX1, 9)) 10 13 1 K (n_isRegister (zl Z) (zD Z) h0 ad cs _ a) (lw_V q305 q307 qs23 q29 q308) (by decide +kernel) ⟨by decide, by decide⟩ rfl rfl rfl rfl (Nat.le_of_ble_eq_true rfl) dX1_subtract_10 rfl (fun r10 G10 h10 => ?_)
    obtain ⟨h10, e9⟩ := h10
    replace e9 := e9.symm
    subst e9
    refine z_if_eq 13 16 24 K dX1_subtract_13 rfl (by decide) (fun c13 => ?_) (fun c13 => ?_)
    · have k1 :  zbadR a := Classical.not_not.mp (zB_0 h10 c13)
      refine z_iconst 24 25 K (-1) dX1_subtract_24 rfl (by decide) ?_
      exact z_iret K E 25 dX1_subtract_25 rfl (Or.inl ⟨by first | (simp only [*, true_or, or_true]; done) | (have := zle_of c25; simp only [*, true_or, or_true]), rfl, rfl⟩)
    · have k1 : ¬ zbadR a := zB_1 h10 c13
      refine z_aload_n 16 17 K 0 dX1_subtract_16 rfl rfl rfl ?_
      refine z_iload_n 17 18 K 3 dX1_subtract_17 rfl rfl rfl ?_
      refine z_calli (ci := 1) (q := (RX1, TX1, 9)) 18 21 1 K (n_isRegister (zl Z) (zD Z) h0 ad cs _ b) (lw_V q305 q307 qs23 q29 q308) (by decide +kernel) ⟨by decide, by decide⟩ rfl rfl rfl rfl (Nat.le_of_ble_eq_true rfl) dX1_subtract_18 rfl (fun r18 G18 h18 => ?_)
      obtain ⟨h18, e9⟩ := h18
      replace e9 := e9.symm
      subst e9
      refine z_if_ne 21 24 26 K dX1_subtract_21 rfl (by decide) (fun c21 => ?_) (fun c21 => ?_)
      · have k2 : ¬ zbadR b := zB_1 h18 c21
        refine z_aload_n 26 27 K 0 dX1_subtract_26 rfl rfl rfl ?_
        refine z_iconst 27 28 K 2 dX1_subtract_27 rfl (by decide) ?_
        refine z_iload_n 28 29 K 1 dX1_subtract_28 rfl rfl rfl ?_
        refine z_iload_n 29 30 K 2 dX1_subtract_29 rfl rfl rfl ?_
        refine z_iload_n 30 31 K 3 dX1_subtract_30 rfl rfl rfl ?_
        refine z_calli (ci := 1) (q := (RX1, TX1, 9)) 31 34 4 K (n_append (zl Z) (zD Z) h0 ad cs _ n hn h14 2 d a b) (lw_V q309 q311 qs24 q29 q312) (by decide +kernel) ⟨by decide, by decide⟩ rfl rfl rfl rfl (Nat.le_of_ble_eq_true rfl) dX1_subtract_31 rfl (fun r31 G31 h31 => ?_)
        exact z_iret K E 34 dX1_subtract_34 rfl (Or.inr ⟨by first | (simp only [*, not_false_eq_true, or_self]; done) | (have := zlt_not c25; simp only [*, not_false_eq_true, or_self]), h31⟩)
      · have k2 :  zbadR b := Classical.not_not.mp (zB_0 h18 c21)
        refine z_iconst 24 25 K (-1) dX1_subtract_24 rfl (by decide) ?_
        exact z_iret K E 25 dX1_subtract_25 rfl (Or.inl ⟨by first | (simp only [*, true_or, or_true]; done) | (have := zle_of c25; simp only [*, true_or, or_true]), rfl, rfl⟩)

set_option maxHeartbeats 4000000 in
set_option maxRecDepth 100000 in
theorem n_load (l : Launch) (D : va_G) (h0 : Nat) (ad : Nat → Nat) (cs : Nat → ClassId) (F : Nat → Nat → Int32) (n : Nat) (hn : F 4 0 = nI n) (h14 : n ≤ 14) (d a o : Int32) : MI l yX1_load cX1_load 4 .int 1 24 D (tyM cs) (wM h0 ad cs) [.ref h0, .int d, .int a, .int o] F (zbad (zbadR d ∨ zbadR a ∨ o < -8 ∨ 15 < o) F (zMpost F n 3 d a o)) := by
  refine MI_start [(0, .ref h0), (1, .int d), (2, .int a), (3, .int o)] (by decide) (Nat.le_of_ble_eq_true rfl) rfl ?_
  intro Z K E
  refine z_aload_n 0 1 K 0 dX1_load_0 rfl rfl rfl ?_
  refine z_iload_n 1 2 K 1 dX1_load_1 rfl rfl rfl ?_
  refine z_calli (ci := 1) (q := (RX1, TX1, 9)) 2 5 1 K (n_isRegister (zl Z) (zD Z) h0 ad cs _ d) (lw_V q305 q307 qs23 q29 q308) (by decide +kernel) ⟨by decide, by decide⟩ rfl rfl rfl rfl (Nat.le_of_ble_eq_true rfl) dX1_load_2 rfl (fun r2 G2 h2 => ?_)
  obtain ⟨h2, e9⟩ := h2
  replace e9 := e9.symm
  subst e9
  refine z_if_eq 5 8 28 K dX1_load_5 rfl (by decide) (fun c5 => ?_) (fun c5 => ?_)
  · have k0 :  zbadR d := Classical.not_not.mp (zB_0 h2 c5)
    refine z_iconst 28 29 K (-1) dX1_load_28 rfl (by decide) ?_
    exact z_iret K E 29 dX1_load_29 rfl (Or.inl ⟨by first | (simp only [*, true_or, or_true]; done) | (have := zle_of c25; simp only [*, true_or, or_true]), rfl, rfl⟩)
  · have k0 : ¬ zbadR d := zB_1 h2 c5
    refine z_aload_n 8 9 K 0 dX1_load_8 rfl rfl rfl ?_
    refine z_iload_n 9 10 K 2 dX1_load_9 rfl rfl rfl ?_
    refine z_calli (ci := 1) (q := (RX1, TX1, 9)) 10 13 1 K (n_isRegister (zl Z) (zD Z) h0 ad cs _ a) (lw_V q305 q307 qs23 q29 q308) (by decide +kernel) ⟨by decide, by decide⟩ rfl rfl rfl rfl (Nat.le_of_ble_eq_true rfl) dX1_load_10 rfl (fun r10 G10 h10 => ?_)
    obtain ⟨h10, e9⟩ := h10
    replace e9 := e9.symm
    subst e9
    refine z_if_eq 13 16 28 K dX1_load_13 rfl (by decide) (fun c13 => ?_) (fun c13 => ?_)
    · have k1 :  zbadR a := Classical.not_not.mp (zB_0 h10 c13)
      refine z_iconst 28 29 K (-1) dX1_load_28 rfl (by decide) ?_
      exact z_iret K E 29 dX1_load_29 rfl (Or.inl ⟨by first | (simp only [*, true_or, or_true]; done) | (have := zle_of c25; simp only [*, true_or, or_true]), rfl, rfl⟩)
    · have k1 : ¬ zbadR a := zB_1 h10 c13
      refine z_iload_n 16 17 K 3 dX1_load_16 rfl rfl rfl ?_
      refine z_bipush 17 19 K (-8) dX1_load_17 rfl (by decide) ?_
      refine z_icmp_lt 19 22 28 K dX1_load_19 rfl (by decide) (fun c19 => ?_) (fun c19 => ?_)
      · refine z_iconst 28 29 K (-1) dX1_load_28 rfl (by decide) ?_
        exact z_iret K E 29 dX1_load_29 rfl (Or.inl ⟨by first | (simp only [*, true_or, or_true]; done) | (have := zle_of c25; simp only [*, true_or, or_true]), rfl, rfl⟩)
      · refine z_iload_n 22 23 K 3 dX1_load_22 rfl rfl rfl ?_
        refine z_bipush 23 25 K 15 dX1_load_23 rfl (by decide) ?_
        refine z_icmp_le 25 28 30 K dX1_load_25 rfl (by decide) (fun c25 => ?_) (fun c25 => ?_)
        · refine z_aload_n 30 31 K 0 dX1_load_30 rfl rfl rfl ?_
          refine z_iconst 31 32 K 3 dX1_load_31 rfl (by decide) ?_
          refine z_iload_n 32 33 K 1 dX1_load_32 rfl rfl rfl ?_
          refine z_iload_n 33 34 K 2 dX1_load_33 rfl rfl rfl ?_
          refine z_iload_n 34 35 K 3 dX1_load_34 rfl rfl rfl ?_
          refine z_calli (ci := 1) (q := (RX1, TX1, 9)) 35 38 4 K (n_append (zl Z) (zD Z) h0 ad cs _ n hn h14 3 d a o) (lw_V q309 q311 qs24 q29 q312) (by decide +kernel) ⟨by decide, by decide⟩ rfl rfl rfl rfl (Nat.le_of_ble_eq_true rfl) dX1_load_35 rfl (fun r35 G35 h35 => ?_)
          exact z_iret K E 38 dX1_load_38 rfl (Or.inr ⟨by first | (simp only [*, not_false_eq_true, or_self]; done) | (have := zlt_not c25; simp only [*, not_false_eq_true, or_self]), h35⟩)
        · refine z_iconst 28 29 K (-1) dX1_load_28 rfl (by decide) ?_
          exact z_iret K E 29 dX1_load_29 rfl (Or.inl ⟨by first | (simp only [*, true_or, or_true]; done) | (have := zle_of c25; simp only [*, true_or, or_true]), rfl, rfl⟩)

set_option maxHeartbeats 4000000 in
set_option maxRecDepth 100000 in
theorem n_store (l : Launch) (D : va_G) (h0 : Nat) (ad : Nat → Nat) (cs : Nat → ClassId) (F : Nat → Nat → Int32) (n : Nat) (hn : F 4 0 = nI n) (h14 : n ≤ 14) (a o s : Int32) : MI l yX1_store cX1_store 4 .int 1 24 D (tyM cs) (wM h0 ad cs) [.ref h0, .int a, .int o, .int s] F (zbad (zbadR a ∨ zbadR s ∨ o < -8 ∨ 15 < o) F (zMpost F n 4 a o s)) := by
  refine MI_start [(0, .ref h0), (1, .int a), (2, .int o), (3, .int s)] (by decide) (Nat.le_of_ble_eq_true rfl) rfl ?_
  intro Z K E
  refine z_aload_n 0 1 K 0 dX1_store_0 rfl rfl rfl ?_
  refine z_iload_n 1 2 K 1 dX1_store_1 rfl rfl rfl ?_
  refine z_calli (ci := 1) (q := (RX1, TX1, 9)) 2 5 1 K (n_isRegister (zl Z) (zD Z) h0 ad cs _ a) (lw_V q305 q307 qs23 q29 q308) (by decide +kernel) ⟨by decide, by decide⟩ rfl rfl rfl rfl (Nat.le_of_ble_eq_true rfl) dX1_store_2 rfl (fun r2 G2 h2 => ?_)
  obtain ⟨h2, e9⟩ := h2
  replace e9 := e9.symm
  subst e9
  refine z_if_eq 5 8 28 K dX1_store_5 rfl (by decide) (fun c5 => ?_) (fun c5 => ?_)
  · have k0 :  zbadR a := Classical.not_not.mp (zB_0 h2 c5)
    refine z_iconst 28 29 K (-1) dX1_store_28 rfl (by decide) ?_
    exact z_iret K E 29 dX1_store_29 rfl (Or.inl ⟨by first | (simp only [*, true_or, or_true]; done) | (have := zle_of c25; simp only [*, true_or, or_true]), rfl, rfl⟩)
  · have k0 : ¬ zbadR a := zB_1 h2 c5
    refine z_aload_n 8 9 K 0 dX1_store_8 rfl rfl rfl ?_
    refine z_iload_n 9 10 K 3 dX1_store_9 rfl rfl rfl ?_
    refine z_calli (ci := 1) (q := (RX1, TX1, 9)) 10 13 1 K (n_isRegister (zl Z) (zD Z) h0 ad cs _ s) (lw_V q305 q307 qs23 q29 q308) (by decide +kernel) ⟨by decide, by decide⟩ rfl rfl rfl rfl (Nat.le_of_ble_eq_true rfl) dX1_store_10 rfl (fun r10 G10 h10 => ?_)
    obtain ⟨h10, e9⟩ := h10
    replace e9 := e9.symm
    subst e9
    refine z_if_eq 13 16 28 K dX1_store_13 rfl (by decide) (fun c13 => ?_) (fun c13 => ?_)
    · have k1 :  zbadR s := Classical.not_not.mp (zB_0 h10 c13)
      refine z_iconst 28 29 K (-1) dX1_store_28 rfl (by decide) ?_
      exact z_iret K E 29 dX1_store_29 rfl (Or.inl ⟨by first | (simp only [*, true_or, or_true]; done) | (have := zle_of c25; simp only [*, true_or, or_true]), rfl, rfl⟩)
    · have k1 : ¬ zbadR s := zB_1 h10 c13
      refine z_iload_n 16 17 K 2 dX1_store_16 rfl rfl rfl ?_
      refine z_bipush 17 19 K (-8) dX1_store_17 rfl (by decide) ?_
      refine z_icmp_lt 19 22 28 K dX1_store_19 rfl (by decide) (fun c19 => ?_) (fun c19 => ?_)
      · refine z_iconst 28 29 K (-1) dX1_store_28 rfl (by decide) ?_
        exact z_iret K E 29 dX1_store_29 rfl (Or.inl ⟨by first | (simp only [*, true_or, or_true]; done) | (have := zle_of c25; simp only [*, true_or, or_true]), rfl, rfl⟩)
      · refine z_iload_n 22 23 K 2 dX1_store_22 rfl rfl rfl ?_
        refine z_bipush 23 25 K 15 dX1_store_23 rfl (by decide) ?_
        refine z_icmp_le 25 28 30 K dX1_store_25 rfl (by decide) (fun c25 => ?_) (fun c25 => ?_)
        · refine z_aload_n 30 31 K 0 dX1_store_30 rfl rfl rfl ?_
          refine z_iconst 31 32 K 4 dX1_store_31 rfl (by decide) ?_
          refine z_iload_n 32 33 K 1 dX1_store_32 rfl rfl rfl ?_
          refine z_iload_n 33 34 K 2 dX1_store_33 rfl rfl rfl ?_
          refine z_iload_n 34 35 K 3 dX1_store_34 rfl rfl rfl ?_
          refine z_calli (ci := 1) (q := (RX1, TX1, 9)) 35 38 4 K (n_append (zl Z) (zD Z) h0 ad cs _ n hn h14 4 a o s) (lw_V q309 q311 qs24 q29 q312) (by decide +kernel) ⟨by decide, by decide⟩ rfl rfl rfl rfl (Nat.le_of_ble_eq_true rfl) dX1_store_35 rfl (fun r35 G35 h35 => ?_)
          exact z_iret K E 38 dX1_store_38 rfl (Or.inr ⟨by first | (simp only [*, not_false_eq_true, or_self]; done) | (have := zlt_not c25; simp only [*, not_false_eq_true, or_self]), h35⟩)
        · refine z_iconst 28 29 K (-1) dX1_store_28 rfl (by decide) ?_
          exact z_iret K E 29 dX1_store_29 rfl (Or.inl ⟨by first | (simp only [*, true_or, or_true]; done) | (have := zle_of c25; simp only [*, true_or, or_true]), rfl, rfl⟩)

set_option maxHeartbeats 4000000 in
set_option maxRecDepth 100000 in
theorem n_leave (l : Launch) (D : va_G) (h0 : Nat) (ad : Nat → Nat) (cs : Nat → ClassId) (F : Nat → Nat → Int32) (n : Nat) (hn : F 4 0 = nI n) (h14 : n ≤ 14) (a : Int32) : MI l yX1_leave cX1_leave 2 .int 1 24 D (tyM cs) (wM h0 ad cs) [.ref h0, .int a] F (zbad (zbadR a) F (zMpost F n 5 a 0 0)) := by
  refine MI_start [(0, .ref h0), (1, .int a)] (by decide) (Nat.le_of_ble_eq_true rfl) rfl ?_
  intro Z K E
  refine z_aload_n 0 1 K 0 dX1_leave_0 rfl rfl rfl ?_
  refine z_iload_n 1 2 K 1 dX1_leave_1 rfl rfl rfl ?_
  refine z_calli (ci := 1) (q := (RX1, TX1, 9)) 2 5 1 K (n_isRegister (zl Z) (zD Z) h0 ad cs _ a) (lw_V q305 q307 qs23 q29 q308) (by decide +kernel) ⟨by decide, by decide⟩ rfl rfl rfl rfl (Nat.le_of_ble_eq_true rfl) dX1_leave_2 rfl (fun r2 G2 h2 => ?_)
  obtain ⟨h2, e9⟩ := h2
  replace e9 := e9.symm
  subst e9
  refine z_if_ne 5 8 10 K dX1_leave_5 rfl (by decide) (fun c5 => ?_) (fun c5 => ?_)
  · have k0 : ¬ zbadR a := zB_1 h2 c5
    refine z_aload_n 10 11 K 0 dX1_leave_10 rfl rfl rfl ?_
    refine z_iconst 11 12 K 5 dX1_leave_11 rfl (by decide) ?_
    refine z_iload_n 12 13 K 1 dX1_leave_12 rfl rfl rfl ?_
    refine z_iconst 13 14 K 0 dX1_leave_13 rfl (by decide) ?_
    refine z_iconst 14 15 K 0 dX1_leave_14 rfl (by decide) ?_
    refine z_calli (ci := 1) (q := (RX1, TX1, 9)) 15 18 4 K (n_append (zl Z) (zD Z) h0 ad cs _ n hn h14 5 a 0 0) (lw_V q309 q311 qs24 q29 q312) (by decide +kernel) ⟨by decide, by decide⟩ rfl rfl rfl rfl (Nat.le_of_ble_eq_true rfl) dX1_leave_15 rfl (fun r15 G15 h15 => ?_)
    exact z_iret K E 18 dX1_leave_18 rfl (Or.inr ⟨by first | (simp only [*, not_false_eq_true, or_self]; done) | (have := zlt_not c25; simp only [*, not_false_eq_true, or_self]), h15⟩)
  · have k0 :  zbadR a := Classical.not_not.mp (zB_0 h2 c5)
    refine z_iconst 8 9 K (-1) dX1_leave_8 rfl (by decide) ?_
    exact z_iret K E 9 dX1_leave_9 rfl (Or.inl ⟨by first | (simp only [*, true_or, or_true]; done) | (have := zle_of c25; simp only [*, true_or, or_true]), rfl, rfl⟩)

set_option maxHeartbeats 4000000 in
set_option maxRecDepth 100000 in
theorem m_size (l : Launch) (D : va_G) (h0 : Nat) (ad : Nat → Nat) (cs : Nat → ClassId) (F : Nat → Nat → Int32)  : MI l yX0_size cX0_size 1 .int 0 0 D (tyX cs) (wX h0 ad cs) [.ref h0] F (fun r F' => r = F 0 0 ∧ F' = F) := by
  refine MI_start [(0, .ref h0)] (by decide) (Nat.le_of_ble_eq_true rfl) rfl ?_
  intro Z K E
  refine z_aload_n 0 1 K 0 dX0_size_0 rfl rfl rfl ?_
  refine xg_0 1 4 K dX0_size_1 rfl ?_
  exact z_iret K E 4 dX0_size_4 rfl ⟨rfl, rfl⟩

set_option maxHeartbeats 4000000 in
set_option maxRecDepth 100000 in
theorem m_last (l : Launch) (D : va_G) (h0 : Nat) (ad : Nat → Nat) (cs : Nat → ClassId) (F : Nat → Nat → Int32)  : MI l yX0_last cX0_last 1 .int 0 0 D (tyX cs) (wX h0 ad cs) [.ref h0] F (fun r F' => r = F 9 0 ∧ F' = F) := by
  refine MI_start [(0, .ref h0)] (by decide) (Nat.le_of_ble_eq_true rfl) rfl ?_
  intro Z K E
  refine z_aload_n 0 1 K 0 dX0_last_0 rfl rfl rfl ?_
  refine xg_9 1 4 K dX0_last_1 rfl ?_
  exact z_iret K E 4 dX0_last_4 rfl ⟨rfl, rfl⟩

set_option maxHeartbeats 4000000 in
set_option maxRecDepth 100000 in
theorem n_size (l : Launch) (D : va_G) (h0 : Nat) (ad : Nat → Nat) (cs : Nat → ClassId) (F : Nat → Nat → Int32)  : MI l yX1_size cX1_size 1 .int 0 0 D (tyM cs) (wM h0 ad cs) [.ref h0] F (fun r F' => r = F 4 0 ∧ F' = F) := by
  refine MI_start [(0, .ref h0)] (by decide) (Nat.le_of_ble_eq_true rfl) rfl ?_
  intro Z K E
  refine z_aload_n 0 1 K 0 dX1_size_0 rfl rfl rfl ?_
  refine yg_4 1 4 K dX1_size_1 rfl ?_
  exact z_iret K E 4 dX1_size_4 rfl ⟨rfl, rfl⟩

set_option maxHeartbeats 4000000 in
set_option maxRecDepth 100000 in
theorem n_last (l : Launch) (D : va_G) (h0 : Nat) (ad : Nat → Nat) (cs : Nat → ClassId) (F : Nat → Nat → Int32)  : MI l yX1_last cX1_last 1 .int 0 0 D (tyM cs) (wM h0 ad cs) [.ref h0] F (fun r F' => r = F 8 0 ∧ F' = F) := by
  refine MI_start [(0, .ref h0)] (by decide) (Nat.le_of_ble_eq_true rfl) rfl ?_
  intro Z K E
  refine z_aload_n 0 1 K 0 dX1_last_0 rfl rfl rfl ?_
  refine yg_8 1 4 K dX1_last_1 rfl ?_
  exact z_iret K E 4 dX1_last_4 rfl ⟨rfl, rfl⟩

set_option maxHeartbeats 4000000 in
set_option maxRecDepth 100000 in
theorem m_clear (l : Launch) (D : va_G) (h0 : Nat) (ad : Nat → Nat) (cs : Nat → ClassId) (F : Nat → Nat → Int32)  : MV l yX0_clear cX0_clear 1 0 0 D (tyX cs) (wX h0 ad cs) [.ref h0] F (fun F' => F' = zput (zput F 0 (fun _ => 0)) 10 (fun _ => 0)) := by
  refine MV_start [(0, .ref h0)] (by decide) (Nat.le_of_ble_eq_true rfl) rfl ?_
  intro Z K E
  refine z_aload_n 0 1 K 0 dX0_clear_0 rfl rfl rfl ?_
  refine z_iconst 1 2 K 0 dX0_clear_1 rfl (by decide) ?_
  refine xp_0 2 5 K dX0_clear_2 rfl ?_
  refine z_aload_n 5 6 K 0 dX0_clear_5 rfl rfl rfl ?_
  refine z_iconst 6 7 K 0 dX0_clear_6 rfl (by decide) ?_
  refine xp_10 7 10 K rfl rfl dX0_clear_7 rfl ?_
  exact z_vret K E 10 dX0_clear_10 rfl

set_option maxHeartbeats 4000000 in
set_option maxRecDepth 100000 in
theorem n_clear (l : Launch) (D : va_G) (h0 : Nat) (ad : Nat → Nat) (cs : Nat → ClassId) (F : Nat → Nat → Int32)  : MV l yX1_clear cX1_clear 1 0 0 D (tyM cs) (wM h0 ad cs) [.ref h0] F (fun F' => F' = zput F 4 (fun _ => 0)) := by
  refine MV_start [(0, .ref h0)] (by decide) (Nat.le_of_ble_eq_true rfl) rfl ?_
  intro Z K E
  refine z_aload_n 0 1 K 0 dX1_clear_0 rfl rfl rfl ?_
  refine z_iconst 1 2 K 0 dX1_clear_1 rfl (by decide) ?_
  refine yp_4 2 5 K dX1_clear_2 rfl ?_
  exact z_vret K E 5 dX1_clear_5 rfl

set_option maxHeartbeats 4000000 in
set_option maxRecDepth 100000 in
theorem m_setRegister (l : Launch) (D : va_G) (h0 : Nat) (ad : Nat → Nat) (cs : Nat → ClassId) (F : Nat → Nat → Int32) (x v : Int32) : MI l yX0_setRegister cX0_setRegister 3 .int 1 21 D (tyX cs) (wX h0 ad cs) [.ref h0, .int x, .int v] F (zbad (zbadR x) F (fun r F' => r = 0 ∧ F' = zput F 6 (upd (F 6) x.toNatClampNeg v))) := by
  refine MI_start [(0, .ref h0), (1, .int x), (2, .int v)] (by decide) (Nat.le_of_ble_eq_true rfl) rfl ?_
  intro Z K E
  refine z_aload_n 0 1 K 0 dX0_setRegister_0 rfl rfl rfl ?_
  refine z_iload_n 1 2 K 1 dX0_setRegister_1 rfl rfl rfl ?_
  refine z_calli (ci := 0) (q := (RX0, TX0, 23)) 2 5 1 K (m_badReg (zl Z) (zD Z) h0 ad cs _ x) (lw_V q114 q116 qs0 q28 q117) (by decide +kernel) ⟨by decide, by decide⟩ rfl rfl rfl rfl (Nat.le_of_ble_eq_true rfl) dX0_setRegister_2 rfl (fun r2 G2 h2 => ?_)
  obtain ⟨h2, e9⟩ := h2
  replace e9 := e9.symm
  subst e9
  refine z_if_eq 5 8 10 K dX0_setRegister_5 rfl (by decide) (fun c5 => ?_) (fun c5 => ?_)
  · have k0 := zB_0 h2 c5
    refine z_aload_n 10 11 K 0 dX0_setRegister_10 rfl rfl rfl ?_
    refine xg_6 11 14 K dX0_setRegister_11 rfl ?_
    refine z_iload_n 14 15 K 1 dX0_setRegister_14 rfl rfl rfl ?_
    refine z_iload_n 15 16 K 2 dX0_setRegister_15 rfl rfl rfl ?_
    refine xS_6 16 17 K (zbadR_in k0) dX0_setRegister_16 rfl ?_
    refine z_iconst 17 18 K 0 dX0_setRegister_17 rfl (by decide) ?_
    exact z_iret K E 18 dX0_setRegister_18 rfl (Or.inr ⟨k0, rfl, rfl⟩)
  · have k0 := zB_1 h2 c5
    refine z_iconst 8 9 K (-1) dX0_setRegister_8 rfl (by decide) ?_
    exact z_iret K E 9 dX0_setRegister_9 rfl (Or.inl ⟨k0, rfl, rfl⟩)

set_option maxHeartbeats 4000000 in
set_option maxRecDepth 100000 in
theorem m_register (l : Launch) (D : va_G) (h0 : Nat) (ad : Nat → Nat) (cs : Nat → ClassId) (F : Nat → Nat → Int32) (x : Int32) : MI l yX0_register cX0_register 2 .int 1 21 D (tyX cs) (wX h0 ad cs) [.ref h0, .int x] F (fun r F' => F' = F ∧ ((zbadR x ∧ r = 0) ∨ (¬ zbadR x ∧ r = F 6 x.toNatClampNeg))) := by
  refine MI_start [(0, .ref h0), (1, .int x)] (by decide) (Nat.le_of_ble_eq_true rfl) rfl ?_
  intro Z K E
  refine z_aload_n 0 1 K 0 dX0_register_0 rfl rfl rfl ?_
  refine z_iload_n 1 2 K 1 dX0_register_1 rfl rfl rfl ?_
  refine z_calli (ci := 0) (q := (RX0, TX0, 23)) 2 5 1 K (m_badReg (zl Z) (zD Z) h0 ad cs _ x) (lw_V q114 q116 qs0 q28 q117) (by decide +kernel) ⟨by decide, by decide⟩ rfl rfl rfl rfl (Nat.le_of_ble_eq_true rfl) dX0_register_2 rfl (fun r2 G2 h2 => ?_)
  obtain ⟨h2, e9⟩ := h2
  replace e9 := e9.symm
  subst e9
  refine z_if_eq 5 8 12 K dX0_register_5 rfl (by decide) (fun c5 => ?_) (fun c5 => ?_)
  · have k0 := zB_0 h2 c5
    refine z_aload_n 12 13 K 0 dX0_register_12 rfl rfl rfl ?_
    refine xg_6 13 16 K dX0_register_13 rfl ?_
    refine z_iload_n 16 17 K 1 dX0_register_16 rfl rfl rfl ?_
    refine xL_6 17 18 K (zbadR_in k0) dX0_register_17 rfl ?_
    exact z_iret K E 18 dX0_register_18 rfl ⟨rfl, Or.inr ⟨k0, rfl⟩⟩
  · have k0 := zB_1 h2 c5
    refine z_iconst 8 9 K 0 dX0_register_8 rfl (by decide) ?_
    refine z_goto 9 18 K dX0_register_9 (by decide) ?_
    exact z_iret K E 18 dX0_register_18 rfl ⟨rfl, Or.inl ⟨k0, rfl⟩⟩

set_option maxHeartbeats 4000000 in
set_option maxRecDepth 100000 in
theorem m_setWord (l : Launch) (D : va_G) (h0 : Nat) (ad : Nat → Nat) (cs : Nat → ClassId) (F : Nat → Nat → Int32) (x v : Int32) : MI l yX0_setWord cX0_setWord 3 .int 1 21 D (tyX cs) (wX h0 ad cs) [.ref h0, .int x, .int v] F (zbad (zbadA x) F (fun r F' => r = 0 ∧ F' = zput F 7 (upd (F 7) x.toNatClampNeg v))) := by
  refine MI_start [(0, .ref h0), (1, .int x), (2, .int v)] (by decide) (Nat.le_of_ble_eq_true rfl) rfl ?_
  intro Z K E
  refine z_aload_n 0 1 K 0 dX0_setWord_0 rfl rfl rfl ?_
  refine z_iload_n 1 2 K 1 dX0_setWord_1 rfl rfl rfl ?_
  refine z_calli (ci := 0) (q := (RX0, TX0, 23)) 2 5 1 K (m_badAddress (zl Z) (zD Z) h0 ad cs _ x) (lw_V q162 q164 qs2 q28 q165) (by decide +kernel) ⟨by decide, by decide⟩ rfl rfl rfl rfl (Nat.le_of_ble_eq_true rfl) dX0_setWord_2 rfl (fun r2 G2 h2 => ?_)
  obtain ⟨h2, e9⟩ := h2
  replace e9 := e9.symm
  subst e9
  refine z_if_eq 5 8 10 K dX0_setWord_5 rfl (by decide) (fun c5 => ?_) (fun c5 => ?_)
  · have k0 := zB_0 h2 c5
    refine z_aload_n 10 11 K 0 dX0_setWord_10 rfl rfl rfl ?_
    refine xg_7 11 14 K dX0_setWord_11 rfl ?_
    refine z_iload_n 14 15 K 1 dX0_setWord_14 rfl rfl rfl ?_
    refine z_iload_n 15 16 K 2 dX0_setWord_15 rfl rfl rfl ?_
    refine xS_7 16 17 K (zbadA_in k0) dX0_setWord_16 rfl ?_
    refine z_iconst 17 18 K 0 dX0_setWord_17 rfl (by decide) ?_
    exact z_iret K E 18 dX0_setWord_18 rfl (Or.inr ⟨k0, rfl, rfl⟩)
  · have k0 := zB_1 h2 c5
    refine z_iconst 8 9 K (-1) dX0_setWord_8 rfl (by decide) ?_
    exact z_iret K E 9 dX0_setWord_9 rfl (Or.inl ⟨k0, rfl, rfl⟩)

set_option maxHeartbeats 4000000 in
set_option maxRecDepth 100000 in
theorem m_word (l : Launch) (D : va_G) (h0 : Nat) (ad : Nat → Nat) (cs : Nat → ClassId) (F : Nat → Nat → Int32) (x : Int32) : MI l yX0_word cX0_word 2 .int 1 21 D (tyX cs) (wX h0 ad cs) [.ref h0, .int x] F (fun r F' => F' = F ∧ ((zbadA x ∧ r = 0) ∨ (¬ zbadA x ∧ r = F 7 x.toNatClampNeg))) := by
  refine MI_start [(0, .ref h0), (1, .int x)] (by decide) (Nat.le_of_ble_eq_true rfl) rfl ?_
  intro Z K E
  refine z_aload_n 0 1 K 0 dX0_word_0 rfl rfl rfl ?_
  refine z_iload_n 1 2 K 1 dX0_word_1 rfl rfl rfl ?_
  refine z_calli (ci := 0) (q := (RX0, TX0, 23)) 2 5 1 K (m_badAddress (zl Z) (zD Z) h0 ad cs _ x) (lw_V q162 q164 qs2 q28 q165) (by decide +kernel) ⟨by decide, by decide⟩ rfl rfl rfl rfl (Nat.le_of_ble_eq_true rfl) dX0_word_2 rfl (fun r2 G2 h2 => ?_)
  obtain ⟨h2, e9⟩ := h2
  replace e9 := e9.symm
  subst e9
  refine z_if_eq 5 8 12 K dX0_word_5 rfl (by decide) (fun c5 => ?_) (fun c5 => ?_)
  · have k0 := zB_0 h2 c5
    refine z_aload_n 12 13 K 0 dX0_word_12 rfl rfl rfl ?_
    refine xg_7 13 16 K dX0_word_13 rfl ?_
    refine z_iload_n 16 17 K 1 dX0_word_16 rfl rfl rfl ?_
    refine xL_7 17 18 K (zbadA_in k0) dX0_word_17 rfl ?_
    exact z_iret K E 18 dX0_word_18 rfl ⟨rfl, Or.inr ⟨k0, rfl⟩⟩
  · have k0 := zB_1 h2 c5
    refine z_iconst 8 9 K 0 dX0_word_8 rfl (by decide) ?_
    refine z_goto 9 18 K dX0_word_9 (by decide) ?_
    exact z_iret K E 18 dX0_word_18 rfl ⟨rfl, Or.inl ⟨k0, rfl⟩⟩

set_option maxHeartbeats 4000000 in
set_option maxRecDepth 100000 in
theorem m_bar (l : Launch) (D : va_G) (h0 : Nat) (ad : Nat → Nat) (cs : Nat → ClassId) (F : Nat → Nat → Int32) (x v : Int32) : MI l yX0_bar cX0_bar 4 .int 1 21 D (tyX cs) (wX h0 ad cs) [.ref h0, .int x, .int v] F (zbad (zbadA x) F (fun r F' => r = (if F 8 x.toNatClampNeg = 0 then 0 else 1) ∧ F' = zput F 8 (upd (F 8) x.toNatClampNeg (if v = 0 then 0 else 1)))) := by
  refine MI_start [(0, .ref h0), (1, .int x), (2, .int v)] (by decide) (Nat.le_of_ble_eq_true rfl) rfl ?_
  intro Z K E
  refine z_aload_n 0 1 K 0 dX0_bar_0 rfl rfl rfl ?_
  refine z_iload_n 1 2 K 1 dX0_bar_1 rfl rfl rfl ?_
  refine z_calli (ci := 0) (q := (RX0, TX0, 23)) 2 5 1 K (m_badAddress (zl Z) (zD Z) h0 ad cs _ x) (lw_V q162 q164 qs2 q28 q165) (by decide +kernel) ⟨by decide, by decide⟩ rfl rfl rfl rfl (Nat.le_of_ble_eq_true rfl) dX0_bar_2 rfl (fun r2 G2 h2 => ?_)
  obtain ⟨h2, e9⟩ := h2
  replace e9 := e9.symm
  subst e9
  refine z_if_eq 5 8 10 K dX0_bar_5 rfl (by decide) (fun c5 => ?_) (fun c5 => ?_)
  · have k0 := zB_0 h2 c5
    refine z_aload_n 10 11 K 0 dX0_bar_10 rfl rfl rfl ?_
    refine xg_8 11 14 K dX0_bar_11 rfl ?_
    refine z_iload_n 14 15 K 1 dX0_bar_14 rfl rfl rfl ?_
    refine xL_8 15 16 K (zbadA_in k0) dX0_bar_15 rfl ?_
    refine z_if_eq 16 19 23 K dX0_bar_16 rfl (by decide) (fun c16 => ?_) (fun c16 => ?_)
    · refine z_iconst 23 24 K 0 dX0_bar_23 rfl (by decide) ?_
      refine z_istore_n 24 25 K [(3, .int 0), (0, .ref h0), (1, .int x), (2, .int v)] dX0_bar_24 rfl rfl (by decide) rfl ?_
      refine z_aload_n 25 26 K 1 dX0_bar_25 rfl rfl rfl ?_
      refine xg_8 26 29 K dX0_bar_26 rfl ?_
      refine z_iload_n 29 30 K 2 dX0_bar_29 rfl rfl rfl ?_
      refine z_iload_n 30 31 K 3 dX0_bar_30 rfl rfl rfl ?_
      refine z_if_eq 31 34 38 K dX0_bar_31 rfl (by decide) (fun c31 => ?_) (fun c31 => ?_)
      · refine z_iconst 38 39 K 0 dX0_bar_38 rfl (by decide) ?_
        refine xS_8 39 40 K 0 (by decide) (zbadA_in k0) dX0_bar_39 rfl ?_
        refine z_iload_n 40 41 K 0 dX0_bar_40 rfl rfl rfl ?_
        exact z_iret K E 41 dX0_bar_41 rfl (Or.inr ⟨k0, by first | rw [if_pos c16] | rw [if_neg c16], by first | rw [if_pos c31] | rw [if_neg c31]⟩)
      · refine z_iconst 34 35 K 1 dX0_bar_34 rfl (by decide) ?_
        refine z_goto 35 39 K dX0_bar_35 (by decide) ?_
        refine xS_8 39 40 K 1 (by decide) (zbadA_in k0) dX0_bar_39 rfl ?_
        refine z_iload_n 40 41 K 0 dX0_bar_40 rfl rfl rfl ?_
        exact z_iret K E 41 dX0_bar_41 rfl (Or.inr ⟨k0, by first | rw [if_pos c16] | rw [if_neg c16], by first | rw [if_pos c31] | rw [if_neg c31]⟩)
    · refine z_iconst 19 20 K 1 dX0_bar_19 rfl (by decide) ?_
      refine z_goto 20 24 K dX0_bar_20 (by decide) ?_
      refine z_istore_n 24 25 K [(3, .int 1), (0, .ref h0), (1, .int x), (2, .int v)] dX0_bar_24 rfl rfl (by decide) rfl ?_
      refine z_aload_n 25 26 K 1 dX0_bar_25 rfl rfl rfl ?_
      refine xg_8 26 29 K dX0_bar_26 rfl ?_
      refine z_iload_n 29 30 K 2 dX0_bar_29 rfl rfl rfl ?_
      refine z_iload_n 30 31 K 3 dX0_bar_30 rfl rfl rfl ?_
      refine z_if_eq 31 34 38 K dX0_bar_31 rfl (by decide) (fun c31 => ?_) (fun c31 => ?_)
      · refine z_iconst 38 39 K 0 dX0_bar_38 rfl (by decide) ?_
        refine xS_8 39 40 K 0 (by decide) (zbadA_in k0) dX0_bar_39 rfl ?_
        refine z_iload_n 40 41 K 0 dX0_bar_40 rfl rfl rfl ?_
        exact z_iret K E 41 dX0_bar_41 rfl (Or.inr ⟨k0, by first | rw [if_pos c16] | rw [if_neg c16], by first | rw [if_pos c31] | rw [if_neg c31]⟩)
      · refine z_iconst 34 35 K 1 dX0_bar_34 rfl (by decide) ?_
        refine z_goto 35 39 K dX0_bar_35 (by decide) ?_
        refine xS_8 39 40 K 1 (by decide) (zbadA_in k0) dX0_bar_39 rfl ?_
        refine z_iload_n 40 41 K 0 dX0_bar_40 rfl rfl rfl ?_
        exact z_iret K E 41 dX0_bar_41 rfl (Or.inr ⟨k0, by first | rw [if_pos c16] | rw [if_neg c16], by first | rw [if_pos c31] | rw [if_neg c31]⟩)
  · have k0 := zB_1 h2 c5
    refine z_iconst 8 9 K (-1) dX0_bar_8 rfl (by decide) ?_
    exact z_iret K E 9 dX0_bar_9 rfl (Or.inl ⟨k0, rfl, rfl⟩)

set_option maxHeartbeats 4000000 in
set_option maxRecDepth 100000 in
theorem n_setRegister (l : Launch) (D : va_G) (h0 : Nat) (ad : Nat → Nat) (cs : Nat → ClassId) (F : Nat → Nat → Int32) (x v : Int32) : MI l yX1_setRegister cX1_setRegister 3 .int 1 21 D (tyM cs) (wM h0 ad cs) [.ref h0, .int x, .int v] F (zbad (zbadR x) F (fun r F' => r = 0 ∧ F' = zput F 5 (upd (F 5) x.toNatClampNeg v))) := by
  refine MI_start [(0, .ref h0), (1, .int x), (2, .int v)] (by decide) (Nat.le_of_ble_eq_true rfl) rfl ?_
  intro Z K E
  refine z_aload_n 0 1 K 0 dX1_setRegister_0 rfl rfl rfl ?_
  refine z_iload_n 1 2 K 1 dX1_setRegister_1 rfl rfl rfl ?_
  refine z_calli (ci := 1) (q := (RX1, TX1, 9)) 2 5 1 K (n_isRegister (zl Z) (zD Z) h0 ad cs _ x) (lw_V q305 q307 qs23 q29 q308) (by decide +kernel) ⟨by decide, by decide⟩ rfl rfl rfl rfl (Nat.le_of_ble_eq_true rfl) dX1_setRegister_2 rfl (fun r2 G2 h2 => ?_)
  obtain ⟨h2, e9⟩ := h2
  replace e9 := e9.symm
  subst e9
  refine z_if_ne 5 8 10 K dX1_setRegister_5 rfl (by decide) (fun c5 => ?_) (fun c5 => ?_)
  · have k0 : ¬ zbadR x := zB_1 h2 c5
    refine z_aload_n 10 11 K 0 dX1_setRegister_10 rfl rfl rfl ?_
    refine yg_5 11 14 K dX1_setRegister_11 rfl ?_
    refine z_iload_n 14 15 K 1 dX1_setRegister_14 rfl rfl rfl ?_
    refine z_iload_n 15 16 K 2 dX1_setRegister_15 rfl rfl rfl ?_
    refine yS_5 16 17 K (zbadR_in k0) dX1_setRegister_16 rfl ?_
    refine z_iconst 17 18 K 0 dX1_setRegister_17 rfl (by decide) ?_
    exact z_iret K E 18 dX1_setRegister_18 rfl (Or.inr ⟨k0, rfl, rfl⟩)
  · have k0 :  zbadR x := Classical.not_not.mp (zB_0 h2 c5)
    refine z_iconst 8 9 K (-1) dX1_setRegister_8 rfl (by decide) ?_
    exact z_iret K E 9 dX1_setRegister_9 rfl (Or.inl ⟨k0, rfl, rfl⟩)

set_option maxHeartbeats 4000000 in
set_option maxRecDepth 100000 in
theorem n_register (l : Launch) (D : va_G) (h0 : Nat) (ad : Nat → Nat) (cs : Nat → ClassId) (F : Nat → Nat → Int32) (x : Int32) : MI l yX1_register cX1_register 2 .int 1 21 D (tyM cs) (wM h0 ad cs) [.ref h0, .int x] F (fun r F' => F' = F ∧ ((zbadR x ∧ r = 0) ∨ (¬ zbadR x ∧ r = F 5 x.toNatClampNeg))) := by
  refine MI_start [(0, .ref h0), (1, .int x)] (by decide) (Nat.le_of_ble_eq_true rfl) rfl ?_
  intro Z K E
  refine z_aload_n 0 1 K 0 dX1_register_0 rfl rfl rfl ?_
  refine z_iload_n 1 2 K 1 dX1_register_1 rfl rfl rfl ?_
  refine z_calli (ci := 1) (q := (RX1, TX1, 9)) 2 5 1 K (n_isRegister (zl Z) (zD Z) h0 ad cs _ x) (lw_V q305 q307 qs23 q29 q308) (by decide +kernel) ⟨by decide, by decide⟩ rfl rfl rfl rfl (Nat.le_of_ble_eq_true rfl) dX1_register_2 rfl (fun r2 G2 h2 => ?_)
  obtain ⟨h2, e9⟩ := h2
  replace e9 := e9.symm
  subst e9
  refine z_if_eq 5 8 17 K dX1_register_5 rfl (by decide) (fun c5 => ?_) (fun c5 => ?_)
  · have k0 :  zbadR x := Classical.not_not.mp (zB_0 h2 c5)
    refine z_iconst 17 18 K 0 dX1_register_17 rfl (by decide) ?_
    exact z_iret K E 18 dX1_register_18 rfl ⟨rfl, Or.inl ⟨k0, rfl⟩⟩
  · have k0 : ¬ zbadR x := zB_1 h2 c5
    refine z_aload_n 8 9 K 0 dX1_register_8 rfl rfl rfl ?_
    refine yg_5 9 12 K dX1_register_9 rfl ?_
    refine z_iload_n 12 13 K 1 dX1_register_12 rfl rfl rfl ?_
    refine yL_5 13 14 K (zbadR_in k0) dX1_register_13 rfl ?_
    refine z_goto 14 18 K dX1_register_14 (by decide) ?_
    exact z_iret K E 18 dX1_register_18 rfl ⟨rfl, Or.inr ⟨k0, rfl⟩⟩

set_option maxHeartbeats 4000000 in
set_option maxRecDepth 100000 in
theorem n_setWord (l : Launch) (D : va_G) (h0 : Nat) (ad : Nat → Nat) (cs : Nat → ClassId) (F : Nat → Nat → Int32) (x v : Int32) : MI l yX1_setWord cX1_setWord 3 .int 1 21 D (tyM cs) (wM h0 ad cs) [.ref h0, .int x, .int v] F (zbad (zbadA x) F (fun r F' => r = 0 ∧ F' = zput F 6 (upd (F 6) x.toNatClampNeg v))) := by
  refine MI_start [(0, .ref h0), (1, .int x), (2, .int v)] (by decide) (Nat.le_of_ble_eq_true rfl) rfl ?_
  intro Z K E
  refine z_aload_n 0 1 K 0 dX1_setWord_0 rfl rfl rfl ?_
  refine z_iload_n 1 2 K 1 dX1_setWord_1 rfl rfl rfl ?_
  refine z_calli (ci := 1) (q := (RX1, TX1, 9)) 2 5 1 K (n_isAddress (zl Z) (zD Z) h0 ad cs _ x) (lw_V q353 q355 qs25 q29 q356) (by decide +kernel) ⟨by decide, by decide⟩ rfl rfl rfl rfl (Nat.le_of_ble_eq_true rfl) dX1_setWord_2 rfl (fun r2 G2 h2 => ?_)
  obtain ⟨h2, e9⟩ := h2
  replace e9 := e9.symm
  subst e9
  refine z_if_ne 5 8 10 K dX1_setWord_5 rfl (by decide) (fun c5 => ?_) (fun c5 => ?_)
  · have k0 : ¬ zbadA x := zB_1 h2 c5
    refine z_aload_n 10 11 K 0 dX1_setWord_10 rfl rfl rfl ?_
    refine yg_6 11 14 K dX1_setWord_11 rfl ?_
    refine z_iload_n 14 15 K 1 dX1_setWord_14 rfl rfl rfl ?_
    refine z_iload_n 15 16 K 2 dX1_setWord_15 rfl rfl rfl ?_
    refine yS_6 16 17 K (zbadA_in k0) dX1_setWord_16 rfl ?_
    refine z_iconst 17 18 K 0 dX1_setWord_17 rfl (by decide) ?_
    exact z_iret K E 18 dX1_setWord_18 rfl (Or.inr ⟨k0, rfl, rfl⟩)
  · have k0 :  zbadA x := Classical.not_not.mp (zB_0 h2 c5)
    refine z_iconst 8 9 K (-1) dX1_setWord_8 rfl (by decide) ?_
    exact z_iret K E 9 dX1_setWord_9 rfl (Or.inl ⟨k0, rfl, rfl⟩)

set_option maxHeartbeats 4000000 in
set_option maxRecDepth 100000 in
theorem n_word (l : Launch) (D : va_G) (h0 : Nat) (ad : Nat → Nat) (cs : Nat → ClassId) (F : Nat → Nat → Int32) (x : Int32) : MI l yX1_word cX1_word 2 .int 1 21 D (tyM cs) (wM h0 ad cs) [.ref h0, .int x] F (fun r F' => F' = F ∧ ((zbadA x ∧ r = 0) ∨ (¬ zbadA x ∧ r = F 6 x.toNatClampNeg))) := by
  refine MI_start [(0, .ref h0), (1, .int x)] (by decide) (Nat.le_of_ble_eq_true rfl) rfl ?_
  intro Z K E
  refine z_aload_n 0 1 K 0 dX1_word_0 rfl rfl rfl ?_
  refine z_iload_n 1 2 K 1 dX1_word_1 rfl rfl rfl ?_
  refine z_calli (ci := 1) (q := (RX1, TX1, 9)) 2 5 1 K (n_isAddress (zl Z) (zD Z) h0 ad cs _ x) (lw_V q353 q355 qs25 q29 q356) (by decide +kernel) ⟨by decide, by decide⟩ rfl rfl rfl rfl (Nat.le_of_ble_eq_true rfl) dX1_word_2 rfl (fun r2 G2 h2 => ?_)
  obtain ⟨h2, e9⟩ := h2
  replace e9 := e9.symm
  subst e9
  refine z_if_eq 5 8 17 K dX1_word_5 rfl (by decide) (fun c5 => ?_) (fun c5 => ?_)
  · have k0 :  zbadA x := Classical.not_not.mp (zB_0 h2 c5)
    refine z_iconst 17 18 K 0 dX1_word_17 rfl (by decide) ?_
    exact z_iret K E 18 dX1_word_18 rfl ⟨rfl, Or.inl ⟨k0, rfl⟩⟩
  · have k0 : ¬ zbadA x := zB_1 h2 c5
    refine z_aload_n 8 9 K 0 dX1_word_8 rfl rfl rfl ?_
    refine yg_6 9 12 K dX1_word_9 rfl ?_
    refine z_iload_n 12 13 K 1 dX1_word_12 rfl rfl rfl ?_
    refine yL_6 13 14 K (zbadA_in k0) dX1_word_13 rfl ?_
    refine z_goto 14 18 K dX1_word_14 (by decide) ?_
    exact z_iret K E 18 dX1_word_18 rfl ⟨rfl, Or.inr ⟨k0, rfl⟩⟩

set_option maxHeartbeats 4000000 in
set_option maxRecDepth 100000 in
theorem n_bar (l : Launch) (D : va_G) (h0 : Nat) (ad : Nat → Nat) (cs : Nat → ClassId) (F : Nat → Nat → Int32) (x v : Int32) : MI l yX1_bar cX1_bar 4 .int 1 21 D (tyM cs) (wM h0 ad cs) [.ref h0, .int x, .int v] F (zbad (zbadA x) F (fun r F' => r = (if F 7 x.toNatClampNeg = 0 then 0 else 1) ∧ F' = zput F 7 (upd (F 7) x.toNatClampNeg (if v = 0 then 0 else 1)))) := by
  refine MI_start [(0, .ref h0), (1, .int x), (2, .int v)] (by decide) (Nat.le_of_ble_eq_true rfl) rfl ?_
  intro Z K E
  refine z_aload_n 0 1 K 0 dX1_bar_0 rfl rfl rfl ?_
  refine z_iload_n 1 2 K 1 dX1_bar_1 rfl rfl rfl ?_
  refine z_calli (ci := 1) (q := (RX1, TX1, 9)) 2 5 1 K (n_isAddress (zl Z) (zD Z) h0 ad cs _ x) (lw_V q353 q355 qs25 q29 q356) (by decide +kernel) ⟨by decide, by decide⟩ rfl rfl rfl rfl (Nat.le_of_ble_eq_true rfl) dX1_bar_2 rfl (fun r2 G2 h2 => ?_)
  obtain ⟨h2, e9⟩ := h2
  replace e9 := e9.symm
  subst e9
  refine z_if_ne 5 8 10 K dX1_bar_5 rfl (by decide) (fun c5 => ?_) (fun c5 => ?_)
  · have k0 : ¬ zbadA x := zB_1 h2 c5
    refine z_aload_n 10 11 K 0 dX1_bar_10 rfl rfl rfl ?_
    refine yg_7 11 14 K dX1_bar_11 rfl ?_
    refine z_iload_n 14 15 K 1 dX1_bar_14 rfl rfl rfl ?_
    refine yL_7 15 16 K (zbadA_in k0) dX1_bar_15 rfl ?_
    refine z_if_eq 16 19 23 K dX1_bar_16 rfl (by decide) (fun c16 => ?_) (fun c16 => ?_)
    · refine z_iconst 23 24 K 0 dX1_bar_23 rfl (by decide) ?_
      refine z_istore_n 24 25 K [(3, .int 0), (0, .ref h0), (1, .int x), (2, .int v)] dX1_bar_24 rfl rfl (by decide) rfl ?_
      refine z_aload_n 25 26 K 1 dX1_bar_25 rfl rfl rfl ?_
      refine yg_7 26 29 K dX1_bar_26 rfl ?_
      refine z_iload_n 29 30 K 2 dX1_bar_29 rfl rfl rfl ?_
      refine z_iload_n 30 31 K 3 dX1_bar_30 rfl rfl rfl ?_
      refine z_if_eq 31 34 38 K dX1_bar_31 rfl (by decide) (fun c31 => ?_) (fun c31 => ?_)
      · refine z_iconst 38 39 K 0 dX1_bar_38 rfl (by decide) ?_
        refine yS_7 39 40 K 0 (by decide) (zbadA_in k0) dX1_bar_39 rfl ?_
        refine z_iload_n 40 41 K 0 dX1_bar_40 rfl rfl rfl ?_
        exact z_iret K E 41 dX1_bar_41 rfl (Or.inr ⟨k0, by first | rw [if_pos c16] | rw [if_neg c16], by first | rw [if_pos c31] | rw [if_neg c31]⟩)
      · refine z_iconst 34 35 K 1 dX1_bar_34 rfl (by decide) ?_
        refine z_goto 35 39 K dX1_bar_35 (by decide) ?_
        refine yS_7 39 40 K 1 (by decide) (zbadA_in k0) dX1_bar_39 rfl ?_
        refine z_iload_n 40 41 K 0 dX1_bar_40 rfl rfl rfl ?_
        exact z_iret K E 41 dX1_bar_41 rfl (Or.inr ⟨k0, by first | rw [if_pos c16] | rw [if_neg c16], by first | rw [if_pos c31] | rw [if_neg c31]⟩)
    · refine z_iconst 19 20 K 1 dX1_bar_19 rfl (by decide) ?_
      refine z_goto 20 24 K dX1_bar_20 (by decide) ?_
      refine z_istore_n 24 25 K [(3, .int 1), (0, .ref h0), (1, .int x), (2, .int v)] dX1_bar_24 rfl rfl (by decide) rfl ?_
      refine z_aload_n 25 26 K 1 dX1_bar_25 rfl rfl rfl ?_
      refine yg_7 26 29 K dX1_bar_26 rfl ?_
      refine z_iload_n 29 30 K 2 dX1_bar_29 rfl rfl rfl ?_
      refine z_iload_n 30 31 K 3 dX1_bar_30 rfl rfl rfl ?_
      refine z_if_eq 31 34 38 K dX1_bar_31 rfl (by decide) (fun c31 => ?_) (fun c31 => ?_)
      · refine z_iconst 38 39 K 0 dX1_bar_38 rfl (by decide) ?_
        refine yS_7 39 40 K 0 (by decide) (zbadA_in k0) dX1_bar_39 rfl ?_
        refine z_iload_n 40 41 K 0 dX1_bar_40 rfl rfl rfl ?_
        exact z_iret K E 41 dX1_bar_41 rfl (Or.inr ⟨k0, by first | rw [if_pos c16] | rw [if_neg c16], by first | rw [if_pos c31] | rw [if_neg c31]⟩)
      · refine z_iconst 34 35 K 1 dX1_bar_34 rfl (by decide) ?_
        refine z_goto 35 39 K dX1_bar_35 (by decide) ?_
        refine yS_7 39 40 K 1 (by decide) (zbadA_in k0) dX1_bar_39 rfl ?_
        refine z_iload_n 40 41 K 0 dX1_bar_40 rfl rfl rfl ?_
        exact z_iret K E 41 dX1_bar_41 rfl (Or.inr ⟨k0, by first | rw [if_pos c16] | rw [if_neg c16], by first | rw [if_pos c31] | rw [if_neg c31]⟩)
  · have k0 :  zbadA x := Classical.not_not.mp (zB_0 h2 c5)
    refine z_iconst 8 9 K (-1) dX1_bar_8 rfl (by decide) ?_
    exact z_iret K E 9 dX1_bar_9 rfl (Or.inl ⟨k0, rfl, rfl⟩)
end
section
/-! bits (the first family is out of kit/laws/BITS.to-paste) and the words of the schedule -/
def bt (x : Int32) (i : Nat) : Bool := x.toBitVec.getLsbD i
theorem b_ext {x y : Int32} (h : ∀ i, i < 32 → bt x i = bt y i) : x = y := Int32.toBitVec_inj.mp (BitVec.eq_of_getLsbD_eq (fun i hi => h i hi))
theorem b_or (x y : Int32) (i : Nat) : bt (x ||| y) i = (bt x i || bt y i) := by unfold bt; rw [Int32.toBitVec_or, BitVec.getLsbD_or]
theorem b_and (x y : Int32) (i : Nat) : bt (x &&& y) i = (bt x i && bt y i) := by unfold bt; rw [Int32.toBitVec_and, BitVec.getLsbD_and]
theorem b_0 (i : Nat) : bt 0 i = false := BitVec.getLsbD_zero
theorem s_l : ∀ n, n < 32 → ((nI n &&& 31).toBitVec.smod 32).toNat = n := by decide +kernel
theorem b_shl (n : Nat) (hn : n < 32) (x : Int32) {i : Nat} (hi : i < 32) : bt (x <<< (nI n &&& 31)) i = (decide (n ≤ i) && bt x (i - n)) := by
  unfold bt
  rw [Int32.toBitVec_shiftLeft]
  show (x.toBitVec <<< ((nI n &&& 31).toBitVec.smod 32).toNat).getLsbD i = _
  rw [s_l n hn, BitVec.getLsbD_shiftLeft]
  rcases Nat.lt_or_ge i n with h | h
  · simp [h, Nat.not_le.mpr h]
  · simp [hi, h, Nat.not_lt.mpr h]
theorem b_sshr (n : Nat) (hn : n < 32) (x : Int32) {i : Nat} (hi : i < 32) : bt (x >>> (nI n &&& 31)) i = if n + i < 32 then bt x (n + i) else bt x 31 := by
  unfold bt
  rw [Int32.toBitVec_shiftRight]
  show (x.toBitVec.sshiftRight ((nI n &&& 31).toBitVec.smod 32).toNat).getLsbD i = _
  rw [s_l n hn, BitVec.getLsbD_sshiftRight, BitVec.msb_eq_getLsbD_last]
  simp [hi]
theorem b_one : ∀ i, i < 32 → bt 1 i = decide (i = 0) := by decide +kernel
/-- bit b of x, as the bytecode tests it -/
def zbit (x : Int32) (b : Nat) : Prop := (x >>> (nI b &&& 31)) &&& 1 = 1
theorem zbit_iff {x : Int32} {b : Nat} (hb : b < 32) : zbit x b ↔ bt x b = true := by
  unfold zbit
  constructor
  · intro h
    have h2 : bt ((x >>> (nI b &&& 31)) &&& 1) 0 = bt 1 0 := by rw [h]
    rw [b_and, b_sshr b hb x (by omega), b_one 0 (by omega)] at h2
    simpa [hb] using h2
  · intro h
    apply b_ext
    intro i hi
    rw [b_and, b_sshr b hb x hi, b_one i hi]
    by_cases h0 : i = 0
    · subst h0
      simp [hb, h]
    · simp [h0]
theorem zbit_or {x : Int32} {i b : Nat} (hi : i < 32) (hb : b < 32) : zbit (x ||| ((1 : Int32) <<< (nI i &&& 31))) b ↔ zbit x b ∨ b = i := by
  rw [zbit_iff hb, zbit_iff hb, b_or, b_shl i hi 1 hb, b_one _ (by omega)]
  have e : (decide (i ≤ b) && decide (b - i = 0)) = decide (b = i) := by
    by_cases h : b = i
    · subst h; simp
    · by_cases h2 : i ≤ b
      · simp [h, h2]; omega
      · simp [h, h2]
  rw [e]
  simp
theorem zbit_one {i b : Nat} (hi : i < 32) (hb : b < 32) : zbit ((1 : Int32) <<< (nI i &&& 31)) b ↔ b = i := by
  rw [zbit_iff hb, b_shl i hi 1 hb, b_one _ (by omega)]
  by_cases h : b = i
  · subst h; simp
  · by_cases h2 : i ≤ b
    · simp [h, h2]; omega
    · simp [h, h2]
theorem zbit_0 {b : Nat} (hb : b < 32) : ¬ zbit 0 b := by
  rw [zbit_iff hb, b_0]
  simp
/-- instruction j must stay behind instruction i -/
def zbh (F : Nat → Nat → Int32) (i j : Nat) : Prop := 3 ≤ F 1 i ∨ 3 ≤ F 1 j ∨ F 2 i = F 2 j ∨ (F 3 j = F 2 i ∨ F 4 j = F 2 i) ∨ (F 3 i = F 2 j ∨ F 4 i = F 2 j)
/-- the address x faults -/
def zflt (F : Nat → Nat → Int32) (x : Int32) : Prop := zbadA x ∨ ¬ F 8 x.toNatClampNeg = 0
def zlat (m : Nat) : Int32 := if m < 14 then 1 else 3
/-- operation n may be issued in cycle cy -/
def zmay (F : Nat → Nat → Int32) (n : Nat) (cy : Int32) : Prop := ¬ F 11 n = 0 ∧ F 14 n < 0 ∧ ∀ m, m < 28 → zbit (F 12 n) m → 0 ≤ F 14 m ∧ F 14 m + zlat m ≤ cy
/-- F' is F but for the fields of the list -/
def zsame (ks : List Nat) (F F' : Nat → Nat → Int32) : Prop := ∀ k, k ∉ ks → F' k = F k
theorem zsame_rf (ks : List Nat) (F : Nat → Nat → Int32) : zsame ks F F := fun _ _ => rfl
theorem zsame_put {ks : List Nat} {F G : Nat → Nat → Int32} {k : Nat} {g : Nat → Int32} (h : zsame ks F G) (hk : k ∈ ks) : zsame ks F (zput G k g) := fun k2 h2 => (zput_n G g (fun (e : k2 = k) => h2 (by rw [e]; exact hk))).trans (h k2 h2)
theorem zsame_tr {ks : List Nat} {F G H : Nat → Nat → Int32} (h1 : zsame ks F G) (h2 : zsame ks G H) : zsame ks F H := fun k hk => (h2 k hk).trans (h1 k hk)
theorem zsame_up {ks ks' : List Nat} {F G : Nat → Nat → Int32} (h : zsame ks F G) (hs : ∀ k ∈ ks, k ∈ ks') : zsame ks' F G := fun k hk => h k (fun z => hk (hs k z))
theorem z_lv {σ : Type} {Z : zz_T} {w : σ → va_W} {pc : Nat} {lv lv' : List (Nat × Value)} {st : List Value} {F : σ} (ks : List Nat) (hl : lv_pick lv ks = lv') (h : zG Z w pc lv' st F) : zG Z w pc lv st F := fun H locs ls hP hD hS hv => h H locs ls hP hD hS (lv_sub hv ks hl)
theorem may_skip {f : Int32} {m : Nat} {P : Nat → Prop} (hf : zB f (∀ k, k < m → P k)) (h : P m) : zB f (∀ k, k < m + 1 → P k) := zB_iff ⟨fun q => lt_s q h, fun q k hk => q k (by omega)⟩ hf
theorem may_zero {m : Nat} {P : Nat → Prop} (h : ¬ P m) : zB 0 (∀ k, k < m + 1 → P k) := zB_f (fun q => h (q m (by omega)))
theorem may_zero' {f : Int32} {m : Nat} {P : Nat → Prop} (hf : zB f (∀ k, k < m → P k)) (e : f = 0) : zB 0 (∀ k, k < m + 1 → P k) := zB_f (fun q => zB_0 hf e (fun k hk => q k (by omega)))
theorem may_one {f : Int32} {m : Nat} {P : Nat → Prop} (hf : zB f (∀ k, k < m → P k)) (e : ¬ f = 0) (h : P m) : zB 1 (∀ k, k < m + 1 → P k) := zB_t (lt_s (zB_1 hf e) h)
/-- what issueOne leaves: nothing may be issued, or one that may is, as number L -/
def zIss (F : Nat → Nat → Int32) (cy : Int32) (L : Nat) (F' : Nat → Nat → Int32) : Prop := (F' = F ∧ ∀ m, m < 28 → ¬ zmay F m cy) ∨ (∃ k, k < 28 ∧ zmay F k cy ∧ F' = zput (zput (zput F 14 (upd (F 14) k cy)) 16 (upd (F 16) L (nI k))) 15 (fun _ => nI (L + 1)))
theorem nI_ne_m1 {n : Nat} (h : n < 2 ^ 31) : ¬ nI n = -1 := by
  intro e
  have h2 := nI_pos h
  rw [e] at h2
  exact h2 (by decide)
end
section
/-! contracts of the scheduling methods (printed by gen2.py) -/
set_option maxRecDepth 100000
set_option maxHeartbeats 4000000 in
set_option maxRecDepth 100000 in
theorem m_fence (l : Launch) (D : va_G) (h0 : Nat) (ad : Nat → Nat) (cs : Nat → ClassId) (F : Nat → Nat → Int32) (i : Nat) (hi : i < 14) : MI l yX0_fence cX0_fence 2 .boolean 0 0 D (tyX cs) (wX h0 ad cs) [.ref h0, .int (nI i)] F (fun r F' => zB r (3 ≤ F 1 i) ∧ F' = F) := by
  refine MI_start [(0, .ref h0), (1, .int (nI i))] (by decide) (Nat.le_of_ble_eq_true rfl) rfl ?_
  intro Z K E
  refine z_aload_n 0 1 K 0 dX0_fence_0 rfl rfl rfl ?_
  refine xg_1 1 4 K dX0_fence_1 rfl ?_
  refine z_iload_n 4 5 K 1 dX0_fence_4 rfl rfl rfl ?_
  refine xl_1 5 6 K i rfl (by omega) dX0_fence_5 rfl ?_
  refine z_iconst 6 7 K 3 dX0_fence_6 rfl (by decide) ?_
  refine z_icmp_lt 7 10 14 K dX0_fence_7 rfl (by decide) (fun c7 => ?_) (fun c7 => ?_)
  · refine z_iconst 14 15 K 0 dX0_fence_14 rfl (by decide) ?_
    exact z_iret K E 15 dX0_fence_15 rfl ⟨zB_f (fun z => zlt_not z c7), rfl⟩
  · refine z_iconst 10 11 K 1 dX0_fence_10 rfl (by decide) ?_
    refine z_goto 11 15 K dX0_fence_11 (by decide) ?_
    exact z_iret K E 15 dX0_fence_15 rfl ⟨zB_t (zge_of c7), rfl⟩

set_option maxHeartbeats 4000000 in
set_option maxRecDepth 100000 in
theorem m_reads (l : Launch) (D : va_G) (h0 : Nat) (ad : Nat → Nat) (cs : Nat → ClassId) (F : Nat → Nat → Int32) (i : Nat) (hi : i < 14) (x : Int32) : MI l yX0_reads cX0_reads 3 .boolean 0 0 D (tyX cs) (wX h0 ad cs) [.ref h0, .int (nI i), .int x] F (fun r F' => zB r (F 3 i = x ∨ F 4 i = x) ∧ F' = F) := by
  refine MI_start [(0, .ref h0), (1, .int (nI i)), (2, .int x)] (by decide) (Nat.le_of_ble_eq_true rfl) rfl ?_
  intro Z K E
  refine z_aload_n 0 1 K 0 dX0_reads_0 rfl rfl rfl ?_
  refine xg_3 1 4 K dX0_reads_1 rfl ?_
  refine z_iload_n 4 5 K 1 dX0_reads_4 rfl rfl rfl ?_
  refine xl_3 5 6 K i rfl (by omega) dX0_reads_5 rfl ?_
  refine z_iload_n 6 7 K 2 dX0_reads_6 rfl rfl rfl ?_
  refine z_icmp_eq 7 10 20 K dX0_reads_7 rfl (by decide) (fun c7 => ?_) (fun c7 => ?_)
  · refine z_iconst 20 21 K 1 dX0_reads_20 rfl (by decide) ?_
    refine z_goto 21 25 K dX0_reads_21 (by decide) ?_
    exact z_iret K E 25 dX0_reads_25 rfl ⟨zB_t (by first | exact Or.inl c7 | exact Or.inr c17), rfl⟩
  · refine z_aload_n 10 11 K 0 dX0_reads_10 rfl rfl rfl ?_
    refine xg_4 11 14 K dX0_reads_11 rfl ?_
    refine z_iload_n 14 15 K 1 dX0_reads_14 rfl rfl rfl ?_
    refine xl_4 15 16 K i rfl (by omega) dX0_reads_15 rfl ?_
    refine z_iload_n 16 17 K 2 dX0_reads_16 rfl rfl rfl ?_
    refine z_icmp_ne 17 20 24 K dX0_reads_17 rfl (by decide) (fun c17 => ?_) (fun c17 => ?_)
    · refine z_iconst 24 25 K 0 dX0_reads_24 rfl (by decide) ?_
      exact z_iret K E 25 dX0_reads_25 rfl ⟨zB_f (fun z => z.elim c7 c17), rfl⟩
    · refine z_iconst 20 21 K 1 dX0_reads_20 rfl (by decide) ?_
      refine z_goto 21 25 K dX0_reads_21 (by decide) ?_
      exact z_iret K E 25 dX0_reads_25 rfl ⟨zB_t (by first | exact Or.inl c7 | exact Or.inr c17), rfl⟩

set_option maxHeartbeats 4000000 in
set_option maxRecDepth 100000 in
theorem m_behind (l : Launch) (D : va_G) (h0 : Nat) (ad : Nat → Nat) (cs : Nat → ClassId) (F : Nat → Nat → Int32) (i j : Nat) (hi : i < 14) (hj : j < 14) : MI l yX0_behind cX0_behind 3 .boolean 1 22 D (tyX cs) (wX h0 ad cs) [.ref h0, .int (nI i), .int (nI j)] F (fun r F' => zB r (zbh F i j) ∧ F' = F) := by
  refine MI_start [(0, .ref h0), (1, .int (nI i)), (2, .int (nI j))] (by decide) (Nat.le_of_ble_eq_true rfl) rfl ?_
  intro Z K E
  refine z_aload_n 0 1 K 0 dX0_behind_0 rfl rfl rfl ?_
  refine z_iload_n 1 2 K 1 dX0_behind_1 rfl rfl rfl ?_
  refine z_calli (ci := 0) (q := (RX0, TX0, 23)) 2 5 1 K (m_fence (zl Z) (zD Z) h0 ad cs _ i hi) (lw_V q190 q192 qs6 q28 q193) (by decide +kernel) ⟨by decide, by decide⟩ rfl rfl rfl rfl (Nat.le_of_ble_eq_true rfl) dX0_behind_2 rfl (fun r2 G2 h2 => ?_)
  obtain ⟨h2, e9⟩ := h2
  replace e9 := e9.symm
  subst e9
  refine z_if_ne 5 8 16 K dX0_behind_5 rfl (by decide) (fun c5 => ?_) (fun c5 => ?_)
  · have k5 := zB_1 h2 c5
    refine z_iconst 16 17 K 1 dX0_behind_16 rfl (by decide) ?_
    exact z_iret K E 17 dX0_behind_17 rfl ⟨zB_t (by first | exact Or.inl k5 | exact Or.inr (Or.inl k13) | exact Or.inr (Or.inr (Or.inl c30)) | exact Or.inr (Or.inr (Or.inr (Or.inl k46))) | exact Or.inr (Or.inr (Or.inr (Or.inr k60)))), rfl⟩
  · have k5 := zB_0 h2 c5
    refine z_aload_n 8 9 K 0 dX0_behind_8 rfl rfl rfl ?_
    refine z_iload_n 9 10 K 2 dX0_behind_9 rfl rfl rfl ?_
    refine z_calli (ci := 0) (q := (RX0, TX0, 23)) 10 13 1 K (m_fence (zl Z) (zD Z) h0 ad cs _ j hj) (lw_V q190 q192 qs6 q28 q193) (by decide +kernel) ⟨by decide, by decide⟩ rfl rfl rfl rfl (Nat.le_of_ble_eq_true rfl) dX0_behind_10 rfl (fun r10 G10 h10 => ?_)
    obtain ⟨h10, e9⟩ := h10
    replace e9 := e9.symm
    subst e9
    refine z_if_eq 13 16 18 K dX0_behind_13 rfl (by decide) (fun c13 => ?_) (fun c13 => ?_)
    · have k13 := zB_0 h10 c13
      refine z_aload_n 18 19 K 0 dX0_behind_18 rfl rfl rfl ?_
      refine xg_2 19 22 K dX0_behind_19 rfl ?_
      refine z_iload_n 22 23 K 1 dX0_behind_22 rfl rfl rfl ?_
      refine xl_2 23 24 K i rfl (by omega) dX0_behind_23 rfl ?_
      refine z_aload_n 24 25 K 0 dX0_behind_24 rfl rfl rfl ?_
      refine xg_2 25 28 K dX0_behind_25 rfl ?_
      refine z_iload_n 28 29 K 2 dX0_behind_28 rfl rfl rfl ?_
      refine xl_2 29 30 K j rfl (by omega) dX0_behind_29 rfl ?_
      refine z_icmp_ne 30 33 35 K dX0_behind_30 rfl (by decide) (fun c30 => ?_) (fun c30 => ?_)
      · refine z_aload_n 35 36 K 0 dX0_behind_35 rfl rfl rfl ?_
        refine z_iload_n 36 37 K 2 dX0_behind_36 rfl rfl rfl ?_
        refine z_aload_n 37 38 K 0 dX0_behind_37 rfl rfl rfl ?_
        refine xg_2 38 41 K dX0_behind_38 rfl ?_
        refine z_iload_n 41 42 K 1 dX0_behind_41 rfl rfl rfl ?_
        refine xl_2 42 43 K i rfl (by omega) dX0_behind_42 rfl ?_
        refine z_calli (ci := 0) (q := (RX0, TX0, 23)) 43 46 2 K (m_reads (zl Z) (zD Z) h0 ad cs _ j hj (F 2 i)) (lw_V q194 q196 qs7 q28 q197) (by decide +kernel) ⟨by decide, by decide⟩ rfl rfl rfl rfl (Nat.le_of_ble_eq_true rfl) dX0_behind_43 rfl (fun r43 G43 h43 => ?_)
        obtain ⟨h43, e9⟩ := h43
        replace e9 := e9.symm
        subst e9
        refine z_if_ne 46 49 63 K dX0_behind_46 rfl (by decide) (fun c46 => ?_) (fun c46 => ?_)
        · have k46 := zB_1 h43 c46
          refine z_iconst 63 64 K 1 dX0_behind_63 rfl (by decide) ?_
          refine z_goto 64 68 K dX0_behind_64 (by decide) ?_
          exact z_iret K E 68 dX0_behind_68 rfl ⟨zB_t (by first | exact Or.inl k5 | exact Or.inr (Or.inl k13) | exact Or.inr (Or.inr (Or.inl c30)) | exact Or.inr (Or.inr (Or.inr (Or.inl k46))) | exact Or.inr (Or.inr (Or.inr (Or.inr k60)))), rfl⟩
        · have k46 := zB_0 h43 c46
          refine z_aload_n 49 50 K 0 dX0_behind_49 rfl rfl rfl ?_
          refine z_iload_n 50 51 K 1 dX0_behind_50 rfl rfl rfl ?_
          refine z_aload_n 51 52 K 0 dX0_behind_51 rfl rfl rfl ?_
          refine xg_2 52 55 K dX0_behind_52 rfl ?_
          refine z_iload_n 55 56 K 2 dX0_behind_55 rfl rfl rfl ?_
          refine xl_2 56 57 K j rfl (by omega) dX0_behind_56 rfl ?_
          refine z_calli (ci := 0) (q := (RX0, TX0, 23)) 57 60 2 K (m_reads (zl Z) (zD Z) h0 ad cs _ i hi (F 2 j)) (lw_V q194 q196 qs7 q28 q197) (by decide +kernel) ⟨by decide, by decide⟩ rfl rfl rfl rfl (Nat.le_of_ble_eq_true rfl) dX0_behind_57 rfl (fun r57 G57 h57 => ?_)
          obtain ⟨h57, e9⟩ := h57
          replace e9 := e9.symm
          subst e9
          refine z_if_eq 60 63 67 K dX0_behind_60 rfl (by decide) (fun c60 => ?_) (fun c60 => ?_)
          · have k60 := zB_0 h57 c60
            refine z_iconst 67 68 K 0 dX0_behind_67 rfl (by decide) ?_
            exact z_iret K E 68 dX0_behind_68 rfl ⟨zB_f (fun z => z.elim k5 (fun z => z.elim k13 (fun z => z.elim c30 (fun z => z.elim k46 k60)))), rfl⟩
          · have k60 := zB_1 h57 c60
            refine z_iconst 63 64 K 1 dX0_behind_63 rfl (by decide) ?_
            refine z_goto 64 68 K dX0_behind_64 (by decide) ?_
            exact z_iret K E 68 dX0_behind_68 rfl ⟨zB_t (by first | exact Or.inl k5 | exact Or.inr (Or.inl k13) | exact Or.inr (Or.inr (Or.inl c30)) | exact Or.inr (Or.inr (Or.inr (Or.inl k46))) | exact Or.inr (Or.inr (Or.inr (Or.inr k60)))), rfl⟩
      · refine z_iconst 33 34 K 1 dX0_behind_33 rfl (by decide) ?_
        exact z_iret K E 34 dX0_behind_34 rfl ⟨zB_t (by first | exact Or.inl k5 | exact Or.inr (Or.inl k13) | exact Or.inr (Or.inr (Or.inl c30)) | exact Or.inr (Or.inr (Or.inr (Or.inl k46))) | exact Or.inr (Or.inr (Or.inr (Or.inr k60)))), rfl⟩
    · have k13 := zB_1 h10 c13
      refine z_iconst 16 17 K 1 dX0_behind_16 rfl (by decide) ?_
      exact z_iret K E 17 dX0_behind_17 rfl ⟨zB_t (by first | exact Or.inl k5 | exact Or.inr (Or.inl k13) | exact Or.inr (Or.inr (Or.inl c30)) | exact Or.inr (Or.inr (Or.inr (Or.inl k46))) | exact Or.inr (Or.inr (Or.inr (Or.inr k60)))), rfl⟩

set_option maxHeartbeats 4000000 in
set_option maxRecDepth 100000 in
theorem m_latency (l : Launch) (D : va_G) (h0 : Nat) (ad : Nat → Nat) (cs : Nat → ClassId) (F : Nat → Nat → Int32) (m : Nat) (hm : m < 28) : MI l yX0_latency cX0_latency 2 .int 0 0 D (tyX cs) (wX h0 ad cs) [.ref h0, .int (nI m)] F (fun r F' => r = zlat m ∧ F' = F) := by
  refine MI_start [(0, .ref h0), (1, .int (nI m))] (by decide) (Nat.le_of_ble_eq_true rfl) rfl ?_
  intro Z K E
  refine z_iload_n 0 1 K 1 dX0_latency_0 rfl rfl rfl ?_
  refine z_bipush 1 3 K 14 dX0_latency_1 rfl (by decide) ?_
  refine z_icmp_lt 3 6 10 K dX0_latency_3 rfl (by decide) (fun c3 => ?_) (fun c3 => ?_)
  · refine z_iconst 10 11 K 1 dX0_latency_10 rfl (by decide) ?_
    exact z_iret K E 11 dX0_latency_11 rfl ⟨by unfold zlat; rw [if_pos ((nI_ltI (by omega) (by decide)).mp c3)], rfl⟩
  · refine z_iconst 6 7 K 3 dX0_latency_6 rfl (by decide) ?_
    refine z_goto 7 11 K dX0_latency_7 (by decide) ?_
    exact z_iret K E 11 dX0_latency_11 rfl ⟨by unfold zlat; rw [if_neg (fun z => c3 (nI_lt z (by decide)))], rfl⟩

set_option maxHeartbeats 4000000 in
set_option maxRecDepth 100000 in
theorem m_writerBefore (l : Launch) (D : va_G) (h0 : Nat) (ad : Nat → Nat) (cs : Nat → ClassId) (F : Nat → Nat → Int32) (i : Nat) (hi : i ≤ 14) (x : Int32) : MI l yX0_writerBefore cX0_writerBefore 5 .int 0 0 D (tyX cs) (wX h0 ad cs) [.ref h0, .int (nI i), .int x] F (fun r F' => F' = F ∧ (r = -1 ∨ ∃ w, w < i ∧ r = nI w)) := by
  refine MI_start [(0, .ref h0), (1, .int (nI i)), (2, .int x)] (by decide) (Nat.le_of_ble_eq_true rfl) rfl ?_
  intro Z K E
  have loop : ∀ (N j : Nat) (f : Int32), j ≤ i → i < j + N → (f = -1 ∨ ∃ w, w < j ∧ f = nI w) → zG Z (wX h0 ad cs) 5 [(4, .int (nI j)), (3, .int f), (0, .ref h0), (1, .int (nI i)), (2, .int x)] [] F := by
    intro N
    induction N with
    | zero => intro j f h1 h2; exact absurd h2 (by omega)
    | succ N ih =>
      intro j f hj hN hf
      refine z_iload 5 7 K 0 dX0_writerBefore_5 rfl rfl ?_
      refine z_iload_n 7 8 K 3 dX0_writerBefore_7 rfl rfl rfl ?_
      refine z_icmp_geN 8 11 31 K j i rfl rfl (by omega) (by omega) dX0_writerBefore_8 rfl (by decide) (fun c8 => ?_) (fun c8 => ?_)
      · refine z_iload_n 31 32 K 1 dX0_writerBefore_31 rfl rfl rfl ?_
        exact z_iret K E 32 dX0_writerBefore_32 rfl ⟨rfl, hf.imp id (fun ⟨w, h1, h2⟩ => ⟨w, by omega, h2⟩)⟩
      · refine z_aload_n 11 12 K 2 dX0_writerBefore_11 rfl rfl rfl ?_
        refine xg_2 12 15 K dX0_writerBefore_12 rfl ?_
        refine z_iload 15 17 K 0 dX0_writerBefore_15 rfl rfl ?_
        refine xl_2 17 18 K j rfl (by omega) dX0_writerBefore_17 rfl ?_
        refine z_iload_n 18 19 K 4 dX0_writerBefore_18 rfl rfl rfl ?_
        refine z_icmp_ne 19 22 25 K dX0_writerBefore_19 rfl (by decide) (fun c19 => ?_) (fun c19 => ?_)
        · refine z_iinc 25 28 K [(4, .int (nI (j + 1))), (3, .int f), (0, .ref h0), (1, .int (nI i)), (2, .int x)] 0 dX0_writerBefore_25 rfl rfl (nI_1 _) (by decide) rfl ?_
          refine z_goto 28 5 K dX0_writerBefore_28 (by decide) ?_
          exact z_lv [0, 1, 2, 3, 4] rfl (ih (j + 1) _ (by omega) (by omega) (by first | exact hf.imp id (fun ⟨w, h1, h2⟩ => ⟨w, by omega, h2⟩) | exact Or.inr ⟨j, by omega, rfl⟩))
        · refine z_iload 22 24 K 0 dX0_writerBefore_22 rfl rfl ?_
          refine z_istore_n 24 25 K [(3, .int (nI j)), (4, .int (nI j)), (0, .ref h0), (1, .int (nI i)), (2, .int x)] dX0_writerBefore_24 rfl rfl (by decide) rfl ?_
          refine z_iinc 25 28 K [(4, .int (nI (j + 1))), (3, .int (nI j)), (0, .ref h0), (1, .int (nI i)), (2, .int x)] 1 dX0_writerBefore_25 rfl rfl (nI_1 _) (by decide) rfl ?_
          refine z_goto 28 5 K dX0_writerBefore_28 (by decide) ?_
          exact z_lv [0, 1, 2, 3, 4] rfl (ih (j + 1) _ (by omega) (by omega) (by first | exact hf.imp id (fun ⟨w, h1, h2⟩ => ⟨w, by omega, h2⟩) | exact Or.inr ⟨j, by omega, rfl⟩))
  refine z_iconst 0 1 K (-1) dX0_writerBefore_0 rfl (by decide) ?_
  refine z_istore_n 1 2 K [(3, .int (-1)), (0, .ref h0), (1, .int (nI i)), (2, .int x)] dX0_writerBefore_1 rfl rfl (by decide) rfl ?_
  refine z_iconst 2 3 K (nI 0) dX0_writerBefore_2 rfl (by decide) ?_
  refine z_istore 3 5 K [(4, .int (nI 0)), (3, .int (-1)), (0, .ref h0), (1, .int (nI i)), (2, .int x)] dX0_writerBefore_3 rfl (by decide) rfl ?_
  exact z_lv [0, 1, 2, 3, 4] rfl (loop (i + 1) 0 _ (by omega) (by omega) (Or.inl rfl))

set_option maxHeartbeats 4000000 in
set_option maxRecDepth 100000 in
theorem m_heightOf (l : Launch) (D : va_G) (h0 : Nat) (ad : Nat → Nat) (cs : Nat → ClassId) (F : Nat → Nat → Int32) (n : Nat) (hn : n < 28) : MI l yX0_heightOf cX0_heightOf 4 .int 1 21 D (tyX cs) (wX h0 ad cs) [.ref h0, .int (nI n)] F (fun _ F' => F' = F) := by
  refine MI_start [(0, .ref h0), (1, .int (nI n))] (by decide) (Nat.le_of_ble_eq_true rfl) rfl ?_
  intro Z K E
  have loop : ∀ (N m : Nat) (b : Int32), m ≤ 28 → 28 < m + N → zG Z (wX h0 ad cs) 4 [(3, .int (nI m)), (2, .int b), (0, .ref h0), (1, .int (nI n))] [] F := by
    intro N
    induction N with
    | zero => intro m b h1 h2; exact absurd h2 (by omega)
    | succ N ih =>
      intro m b hm hN
      refine z_iload_n 4 5 K 0 dX0_heightOf_4 rfl rfl rfl ?_
      refine z_bipush 5 7 K 28 dX0_heightOf_5 rfl (by decide) ?_
      refine z_icmp_geN 7 10 56 K m 28 rfl rfl (by omega) (by omega) dX0_heightOf_7 rfl (by decide) (fun c7 => ?_) (fun c7 => ?_)
      · refine z_iload_n 56 57 K 1 dX0_heightOf_56 rfl rfl rfl ?_
        refine z_aload_n 57 58 K 2 dX0_heightOf_57 rfl rfl rfl ?_
        refine z_iload_n 58 59 K 3 dX0_heightOf_58 rfl rfl rfl ?_
        refine z_calli (ci := 0) (q := (RX0, TX0, 23)) 59 62 1 K (m_latency (zl Z) (zD Z) h0 ad cs _ n hn) (lw_V q214 q216 qs12 q28 q217) (by decide +kernel) ⟨by decide, by decide⟩ rfl rfl rfl rfl (Nat.le_of_ble_eq_true rfl) dX0_heightOf_59 rfl (fun r59 G59 h59 => ?_)
        obtain ⟨h59, e9⟩ := h59
        replace e9 := e9.symm
        subst e9
        refine z_iadd 62 63 K dX0_heightOf_62 rfl ?_
        exact z_iret K E 63 dX0_heightOf_63 rfl rfl
      · refine z_aload_n 10 11 K 2 dX0_heightOf_10 rfl rfl rfl ?_
        refine xg_11 11 14 K dX0_heightOf_11 rfl ?_
        refine z_iload_n 14 15 K 0 dX0_heightOf_14 rfl rfl rfl ?_
        refine xl_11 15 16 K m rfl (by omega) dX0_heightOf_15 rfl ?_
        refine z_if_eq 16 19 50 K dX0_heightOf_16 rfl (by decide) (fun c16 => ?_) (fun c16 => ?_)
        · refine z_iinc 50 53 K [(3, .int (nI (m + 1))), (2, .int b), (0, .ref h0), (1, .int (nI n))] 0 dX0_heightOf_50 rfl rfl (nI_1 _) (by decide) rfl ?_
          refine z_goto 53 4 K dX0_heightOf_53 (by decide) ?_
          exact z_lv [0, 1, 2, 3] rfl (ih (m + 1) _ (by omega) (by omega))
        · refine z_aload_n 19 20 K 2 dX0_heightOf_19 rfl rfl rfl ?_
          refine xg_12 20 23 K dX0_heightOf_20 rfl ?_
          refine z_iload_n 23 24 K 0 dX0_heightOf_23 rfl rfl rfl ?_
          refine xl_12 24 25 K m rfl (by omega) dX0_heightOf_24 rfl ?_
          refine z_iload_n 25 26 K 3 dX0_heightOf_25 rfl rfl rfl ?_
          refine z_ishr 26 27 K dX0_heightOf_26 rfl ?_
          refine z_iconst 27 28 K 1 dX0_heightOf_27 rfl (by decide) ?_
          refine z_iand 28 29 K dX0_heightOf_28 rfl ?_
          refine z_iconst 29 30 K 1 dX0_heightOf_29 rfl (by decide) ?_
          refine z_icmp_ne 30 33 50 K dX0_heightOf_30 rfl (by decide) (fun c30 => ?_) (fun c30 => ?_)
          · refine z_iinc 50 53 K [(3, .int (nI (m + 1))), (2, .int b), (0, .ref h0), (1, .int (nI n))] 0 dX0_heightOf_50 rfl rfl (nI_1 _) (by decide) rfl ?_
            refine z_goto 53 4 K dX0_heightOf_53 (by decide) ?_
            exact z_lv [0, 1, 2, 3] rfl (ih (m + 1) _ (by omega) (by omega))
          · refine z_aload_n 33 34 K 2 dX0_heightOf_33 rfl rfl rfl ?_
            refine xg_13 34 37 K dX0_heightOf_34 rfl ?_
            refine z_iload_n 37 38 K 0 dX0_heightOf_37 rfl rfl rfl ?_
            refine xl_13 38 39 K m rfl (by omega) dX0_heightOf_38 rfl ?_
            refine z_iload_n 39 40 K 1 dX0_heightOf_39 rfl rfl rfl ?_
            refine z_icmp_le 40 43 50 K dX0_heightOf_40 rfl (by decide) (fun c40 => ?_) (fun c40 => ?_)
            · refine z_iinc 50 53 K [(3, .int (nI (m + 1))), (2, .int b), (0, .ref h0), (1, .int (nI n))] 0 dX0_heightOf_50 rfl rfl (nI_1 _) (by decide) rfl ?_
              refine z_goto 53 4 K dX0_heightOf_53 (by decide) ?_
              exact z_lv [0, 1, 2, 3] rfl (ih (m + 1) _ (by omega) (by omega))
            · refine z_aload_n 43 44 K 2 dX0_heightOf_43 rfl rfl rfl ?_
              refine xg_13 44 47 K dX0_heightOf_44 rfl ?_
              refine z_iload_n 47 48 K 0 dX0_heightOf_47 rfl rfl rfl ?_
              refine xl_13 48 49 K m rfl (by omega) dX0_heightOf_48 rfl ?_
              refine z_istore_n 49 50 K [(2, .int (F 13 m)), (3, .int (nI m)), (0, .ref h0), (1, .int (nI n))] dX0_heightOf_49 rfl rfl (by decide) rfl ?_
              refine z_iinc 50 53 K [(3, .int (nI (m + 1))), (2, .int (F 13 m)), (0, .ref h0), (1, .int (nI n))] 1 dX0_heightOf_50 rfl rfl (nI_1 _) (by decide) rfl ?_
              refine z_goto 53 4 K dX0_heightOf_53 (by decide) ?_
              exact z_lv [0, 1, 2, 3] rfl (ih (m + 1) _ (by omega) (by omega))
  refine z_iconst 0 1 K 0 dX0_heightOf_0 rfl (by decide) ?_
  refine z_istore_n 1 2 K [(2, .int 0), (0, .ref h0), (1, .int (nI n))] dX0_heightOf_1 rfl rfl (by decide) rfl ?_
  refine z_iconst 2 3 K (nI 0) dX0_heightOf_2 rfl (by decide) ?_
  refine z_istore_n 3 4 K [(3, .int (nI 0)), (2, .int 0), (0, .ref h0), (1, .int (nI n))] dX0_heightOf_3 rfl rfl (by decide) rfl ?_
  exact z_lv [0, 1, 2, 3] rfl (loop 29 0 _ (by omega) (by omega))

set_option maxHeartbeats 4000000 in
set_option maxRecDepth 100000 in
theorem m_measure (l : Launch) (D : va_G) (h0 : Nat) (ad : Nat → Nat) (cs : Nat → ClassId) (F : Nat → Nat → Int32)  : MV l yX0_measure cX0_measure 3 2 44 D (tyX cs) (wX h0 ad cs) [.ref h0] F (fun F' => zsame [13] F F') := by
  refine MV_start [(0, .ref h0)] (by decide) (Nat.le_of_ble_eq_true rfl) rfl ?_
  intro Z K E
  have loop : ∀ (N i : Nat) (G : Nat → Nat → Int32), i ≤ 28 → 28 < i + N → zsame [13] F G → zG Z (wX h0 ad cs) 2 [(1, .int (nI i)), (0, .ref h0)] [] G := by
    intro N
    induction N with
    | zero => intro i G h1 h2; exact absurd h2 (by omega)
    | succ N ih =>
      intro i G hi hN hG
      have inner : i < 28 → ∀ (N2 j : Nat) (G : Nat → Nat → Int32), j ≤ 28 → 28 < j + N2 → zsame [13] F G → zG Z (wX h0 ad cs) 10 [(2, .int (nI j)), (1, .int (nI i)), (0, .ref h0)] [] G := by
        intro hi2 N2
        induction N2 with
        | zero => intro j G h1 h2; exact absurd h2 (by omega)
        | succ N2 ih2 =>
          intro j G hj hN2 hG
          refine z_iload_n 10 11 K 0 dX0_measure_10 rfl rfl rfl ?_
          refine z_bipush 11 13 K 28 dX0_measure_11 rfl (by decide) ?_
          refine z_icmp_geN 13 16 42 K j 28 rfl rfl (by omega) (by omega) dX0_measure_13 rfl (by decide) (fun c13 => ?_) (fun c13 => ?_)
          · refine z_iinc 42 45 K [(1, .int (nI (i + 1))), (2, .int (nI j)), (0, .ref h0)] 1 dX0_measure_42 rfl rfl (nI_1 _) (by decide) rfl ?_
            refine z_goto 45 2 K dX0_measure_45 (by decide) ?_
            exact z_lv [0, 2] rfl (ih (i + 1) _ (by omega) (by omega) hG)
          · refine z_aload_n 16 17 K 2 dX0_measure_16 rfl rfl rfl ?_
            refine xg_11 17 20 K dX0_measure_17 rfl ?_
            refine z_iload_n 20 21 K 0 dX0_measure_20 rfl rfl rfl ?_
            refine xl_11 21 22 K j rfl (by omega) dX0_measure_21 rfl ?_
            refine z_if_eq 22 25 36 K dX0_measure_22 rfl (by decide) (fun c22 => ?_) (fun c22 => ?_)
            · refine z_iinc 36 39 K [(2, .int (nI (j + 1))), (1, .int (nI i)), (0, .ref h0)] 0 dX0_measure_36 rfl rfl (nI_1 _) (by decide) rfl ?_
              refine z_goto 39 10 K dX0_measure_39 (by decide) ?_
              exact z_lv [0, 1, 2] rfl (ih2 (j + 1) _ (by omega) (by omega) (by first | exact hG | exact zsame_put hG (by decide)))
            · refine z_aload_n 25 26 K 2 dX0_measure_25 rfl rfl rfl ?_
              refine xg_13 26 29 K dX0_measure_26 rfl ?_
              refine z_iload_n 29 30 K 0 dX0_measure_29 rfl rfl rfl ?_
              refine z_aload_n 30 31 K 2 dX0_measure_30 rfl rfl rfl ?_
              refine z_iload_n 31 32 K 0 dX0_measure_31 rfl rfl rfl ?_
              refine z_calli (ci := 0) (q := (RX0, TX0, 23)) 32 35 1 K (m_heightOf (zl Z) (zD Z) h0 ad cs _ j c13) (lw_V q210 q212 qs11 q28 q213) (by decide +kernel) ⟨by decide, by decide⟩ rfl rfl rfl rfl (Nat.le_of_ble_eq_true rfl) dX0_measure_32 rfl (fun r32 G32 h32 => ?_)
              replace h32 := h32.symm
              subst h32
              refine xs_13 35 36 K j rfl (by omega) dX0_measure_35 rfl ?_
              refine z_iinc 36 39 K [(2, .int (nI (j + 1))), (1, .int (nI i)), (0, .ref h0)] 0 dX0_measure_36 rfl rfl (nI_1 _) (by decide) rfl ?_
              refine z_goto 39 10 K dX0_measure_39 (by decide) ?_
              exact z_lv [0, 1, 2] rfl (ih2 (j + 1) _ (by omega) (by omega) (by first | exact hG | exact zsame_put hG (by decide)))
      refine z_iload_n 2 3 K 0 dX0_measure_2 rfl rfl rfl ?_
      refine z_bipush 3 5 K 28 dX0_measure_3 rfl (by decide) ?_
      refine z_icmp_geN 5 8 48 K i 28 rfl rfl (by omega) (by omega) dX0_measure_5 rfl (by decide) (fun c5 => ?_) (fun c5 => ?_)
      · exact z_vret K E 48 dX0_measure_48 hG
      · refine z_iconst 8 9 K (nI 0) dX0_measure_8 rfl (by decide) ?_
        refine z_istore_n 9 10 K [(2, .int (nI 0)), (1, .int (nI i)), (0, .ref h0)] dX0_measure_9 rfl rfl (by decide) rfl ?_
        exact z_lv [0, 1, 2] rfl (inner c5 29 0 _ (by omega) (by omega) hG)
  refine z_iconst 0 1 K (nI 0) dX0_measure_0 rfl (by decide) ?_
  refine z_istore_n 1 2 K [(1, .int (nI 0)), (0, .ref h0)] dX0_measure_1 rfl rfl (by decide) rfl ?_
  exact z_lv [0, 1] rfl (loop 29 0 _ (by omega) (by omega) (zsame_rf _ _))

set_option maxHeartbeats 4000000 in
set_option maxRecDepth 100000 in
theorem m_mayIssue (l : Launch) (D : va_G) (h0 : Nat) (ad : Nat → Nat) (cs : Nat → ClassId) (F : Nat → Nat → Int32) (n : Nat) (hn : n < 28) (cy : Int32) : MI l yX0_mayIssue cX0_mayIssue 6 .boolean 1 21 D (tyX cs) (wX h0 ad cs) [.ref h0, .int (nI n), .int cy] F (fun r F' => zB r (zmay F n cy) ∧ F' = F) := by
  refine MI_start [(0, .ref h0), (1, .int (nI n)), (2, .int cy)] (by decide) (Nat.le_of_ble_eq_true rfl) rfl ?_
  intro Z K E
  have loop : ¬ F 11 n = 0 → F 14 n < 0 → ∀ (N m : Nat) (f : Int32), m ≤ 28 → 28 < m + N → zB f (∀ k, k < m → zbit (F 12 n) k → 0 ≤ F 14 k ∧ F 14 k + zlat k ≤ cy) → zG Z (wX h0 ad cs) 25 [(4, .int (nI m)), (3, .int f), (0, .ref h0), (1, .int (nI n)), (2, .int cy)] [] F := by
    intro hu hi N
    induction N with
    | zero => intro m f h1 h2; exact absurd h2 (by omega)
    | succ N ih =>
      intro m f hm hN hf
      refine z_iload 25 27 K 0 dX0_mayIssue_25 rfl rfl ?_
      refine z_bipush 27 29 K 28 dX0_mayIssue_27 rfl (by decide) ?_
      refine z_icmp_geN 29 32 103 K m 28 rfl rfl (by omega) (by omega) dX0_mayIssue_29 rfl (by decide) (fun c29 => ?_) (fun c29 => ?_)
      · obtain rfl : m = 28 := by omega
        refine z_iload_n 103 104 K 1 dX0_mayIssue_103 rfl rfl rfl ?_
        exact z_iret K E 104 dX0_mayIssue_104 (zB_n hf) ⟨zB_iff ⟨fun q => ⟨hu, hi, q⟩, fun q => q.2.2⟩ hf, rfl⟩
      · refine z_aload_n 32 33 K 2 dX0_mayIssue_32 rfl rfl rfl ?_
        refine xg_12 33 36 K dX0_mayIssue_33 rfl ?_
        refine z_iload_n 36 37 K 3 dX0_mayIssue_36 rfl rfl rfl ?_
        refine xl_12 37 38 K n rfl (by omega) dX0_mayIssue_37 rfl ?_
        refine z_iload 38 40 K 0 dX0_mayIssue_38 rfl rfl ?_
        refine z_ishr 40 41 K dX0_mayIssue_40 rfl ?_
        refine z_iconst 41 42 K 1 dX0_mayIssue_41 rfl (by decide) ?_
        refine z_iand 42 43 K dX0_mayIssue_42 rfl ?_
        refine z_iconst 43 44 K 1 dX0_mayIssue_43 rfl (by decide) ?_
        refine z_icmp_ne 44 47 97 K dX0_mayIssue_44 rfl (by decide) (fun c44 => ?_) (fun c44 => ?_)
        · refine z_iinc 97 100 K [(4, .int (nI (m + 1))), (3, .int f), (0, .ref h0), (1, .int (nI n)), (2, .int cy)] 0 dX0_mayIssue_97 rfl rfl (nI_1 _) (by decide) rfl ?_
          refine z_goto 100 25 K dX0_mayIssue_100 (by decide) ?_
          exact z_lv [0, 1, 2, 3, 4] rfl (ih (m + 1) _ (by omega) (by omega) (by first | exact may_zero' (P := (fun k => zbit (F 12 n) k → 0 ≤ F 14 k ∧ F 14 k + zlat k ≤ cy)) hf c83 | exact may_one (P := (fun k => zbit (F 12 n) k → 0 ≤ F 14 k ∧ F 14 k + zlat k ≤ cy)) hf c83 (fun _ => ⟨zge_of c54, by rw [← h67]; exact zge_of c72⟩) | exact may_zero (P := (fun k => zbit (F 12 n) k → 0 ≤ F 14 k ∧ F 14 k + zlat k ≤ cy)) (fun z => zlt_not (z c44).1 c54) | exact may_zero (P := (fun k => zbit (F 12 n) k → 0 ≤ F 14 k ∧ F 14 k + zlat k ≤ cy)) (fun z => zlt_not (z c44).2 (by rw [← h67]; exact c72)) | exact may_skip (P := (fun k => zbit (F 12 n) k → 0 ≤ F 14 k ∧ F 14 k + zlat k ≤ cy)) hf (fun z => absurd z c44)))
        · refine z_aload_n 47 48 K 2 dX0_mayIssue_47 rfl rfl rfl ?_
          refine xg_14 48 51 K dX0_mayIssue_48 rfl ?_
          refine z_iload 51 53 K 0 dX0_mayIssue_51 rfl rfl ?_
          refine xl_14 53 54 K m rfl (by omega) dX0_mayIssue_53 rfl ?_
          refine z_if_lt 54 57 79 K dX0_mayIssue_54 rfl (by decide) (fun c54 => ?_) (fun c54 => ?_)
          · refine z_iconst 79 80 K 0 dX0_mayIssue_79 rfl (by decide) ?_
            refine z_istore 80 82 K [(5, .int 0), (4, .int (nI m)), (3, .int f), (0, .ref h0), (1, .int (nI n)), (2, .int cy)] dX0_mayIssue_80 rfl (by decide) rfl ?_
            refine z_iload_n 82 83 K 2 dX0_mayIssue_82 rfl rfl rfl ?_
            refine z_if_eq 83 86 95 K dX0_mayIssue_83 rfl (by decide) (fun c83 => ?_) (fun c83 => ?_)
            · refine z_iconst 95 96 K 0 dX0_mayIssue_95 rfl (by decide) ?_
              refine z_istore_n 96 97 K [(3, .int 0), (5, .int 0), (4, .int (nI m)), (0, .ref h0), (1, .int (nI n)), (2, .int cy)] dX0_mayIssue_96 rfl rfl (by decide) rfl ?_
              refine z_iinc 97 100 K [(4, .int (nI (m + 1))), (3, .int 0), (5, .int 0), (0, .ref h0), (1, .int (nI n)), (2, .int cy)] 2 dX0_mayIssue_97 rfl rfl (nI_1 _) (by decide) rfl ?_
              refine z_goto 100 25 K dX0_mayIssue_100 (by decide) ?_
              exact z_lv [0, 1, 3, 4, 5] rfl (ih (m + 1) _ (by omega) (by omega) (by first | exact may_zero' (P := (fun k => zbit (F 12 n) k → 0 ≤ F 14 k ∧ F 14 k + zlat k ≤ cy)) hf c83 | exact may_one (P := (fun k => zbit (F 12 n) k → 0 ≤ F 14 k ∧ F 14 k + zlat k ≤ cy)) hf c83 (fun _ => ⟨zge_of c54, by rw [← h67]; exact zge_of c72⟩) | exact may_zero (P := (fun k => zbit (F 12 n) k → 0 ≤ F 14 k ∧ F 14 k + zlat k ≤ cy)) (fun z => zlt_not (z c44).1 c54) | exact may_zero (P := (fun k => zbit (F 12 n) k → 0 ≤ F 14 k ∧ F 14 k + zlat k ≤ cy)) (fun z => zlt_not (z c44).2 (by rw [← h67]; exact c72)) | exact may_skip (P := (fun k => zbit (F 12 n) k → 0 ≤ F 14 k ∧ F 14 k + zlat k ≤ cy)) hf (fun z => absurd z c44)))
            · refine z_iload 86 88 K 0 dX0_mayIssue_86 rfl rfl ?_
              refine z_if_eq 88 91 95 K dX0_mayIssue_88 rfl (by decide) (fun c88 => ?_) (fun c88 => ?_)
              · refine z_iconst 95 96 K 0 dX0_mayIssue_95 rfl (by decide) ?_
                refine z_istore_n 96 97 K [(3, .int 0), (5, .int 0), (4, .int (nI m)), (0, .ref h0), (1, .int (nI n)), (2, .int cy)] dX0_mayIssue_96 rfl rfl (by decide) rfl ?_
                refine z_iinc 97 100 K [(4, .int (nI (m + 1))), (3, .int 0), (5, .int 0), (0, .ref h0), (1, .int (nI n)), (2, .int cy)] 2 dX0_mayIssue_97 rfl rfl (nI_1 _) (by decide) rfl ?_
                refine z_goto 100 25 K dX0_mayIssue_100 (by decide) ?_
                exact z_lv [0, 1, 3, 4, 5] rfl (ih (m + 1) _ (by omega) (by omega) (by first | exact may_zero' (P := (fun k => zbit (F 12 n) k → 0 ≤ F 14 k ∧ F 14 k + zlat k ≤ cy)) hf c83 | exact may_one (P := (fun k => zbit (F 12 n) k → 0 ≤ F 14 k ∧ F 14 k + zlat k ≤ cy)) hf c83 (fun _ => ⟨zge_of c54, by rw [← h67]; exact zge_of c72⟩) | exact may_zero (P := (fun k => zbit (F 12 n) k → 0 ≤ F 14 k ∧ F 14 k + zlat k ≤ cy)) (fun z => zlt_not (z c44).1 c54) | exact may_zero (P := (fun k => zbit (F 12 n) k → 0 ≤ F 14 k ∧ F 14 k + zlat k ≤ cy)) (fun z => zlt_not (z c44).2 (by rw [← h67]; exact c72)) | exact may_skip (P := (fun k => zbit (F 12 n) k → 0 ≤ F 14 k ∧ F 14 k + zlat k ≤ cy)) hf (fun z => absurd z c44)))
              · exact absurd c88 (by decide)
          · refine z_aload_n 57 58 K 2 dX0_mayIssue_57 rfl rfl rfl ?_
            refine xg_14 58 61 K dX0_mayIssue_58 rfl ?_
            refine z_iload 61 63 K 0 dX0_mayIssue_61 rfl rfl ?_
            refine xl_14 63 64 K m rfl (by omega) dX0_mayIssue_63 rfl ?_
            refine z_aload_n 64 65 K 2 dX0_mayIssue_64 rfl rfl rfl ?_
            refine z_iload 65 67 K 0 dX0_mayIssue_65 rfl rfl ?_
            refine z_calli (ci := 0) (q := (RX0, TX0, 23)) 67 70 1 K (m_latency (zl Z) (zD Z) h0 ad cs _ m c29) (lw_V q214 q216 qs12 q28 q217) (by decide +kernel) ⟨by decide, by decide⟩ rfl rfl rfl rfl (Nat.le_of_ble_eq_true rfl) dX0_mayIssue_67 rfl (fun r67 G67 h67 => ?_)
            obtain ⟨h67, e9⟩ := h67
            replace e9 := e9.symm
            subst e9
            refine z_iadd 70 71 K dX0_mayIssue_70 rfl ?_
            refine z_iload_n 71 72 K 4 dX0_mayIssue_71 rfl rfl rfl ?_
            refine z_icmp_gt 72 75 79 K dX0_mayIssue_72 rfl (by decide) (fun c72 => ?_) (fun c72 => ?_)
            · refine z_iconst 79 80 K 0 dX0_mayIssue_79 rfl (by decide) ?_
              refine z_istore 80 82 K [(5, .int 0), (4, .int (nI m)), (3, .int f), (0, .ref h0), (1, .int (nI n)), (2, .int cy)] dX0_mayIssue_80 rfl (by decide) rfl ?_
              refine z_iload_n 82 83 K 2 dX0_mayIssue_82 rfl rfl rfl ?_
              refine z_if_eq 83 86 95 K dX0_mayIssue_83 rfl (by decide) (fun c83 => ?_) (fun c83 => ?_)
              · refine z_iconst 95 96 K 0 dX0_mayIssue_95 rfl (by decide) ?_
                refine z_istore_n 96 97 K [(3, .int 0), (5, .int 0), (4, .int (nI m)), (0, .ref h0), (1, .int (nI n)), (2, .int cy)] dX0_mayIssue_96 rfl rfl (by decide) rfl ?_
                refine z_iinc 97 100 K [(4, .int (nI (m + 1))), (3, .int 0), (5, .int 0), (0, .ref h0), (1, .int (nI n)), (2, .int cy)] 2 dX0_mayIssue_97 rfl rfl (nI_1 _) (by decide) rfl ?_
                refine z_goto 100 25 K dX0_mayIssue_100 (by decide) ?_
                exact z_lv [0, 1, 3, 4, 5] rfl (ih (m + 1) _ (by omega) (by omega) (by first | exact may_zero' (P := (fun k => zbit (F 12 n) k → 0 ≤ F 14 k ∧ F 14 k + zlat k ≤ cy)) hf c83 | exact may_one (P := (fun k => zbit (F 12 n) k → 0 ≤ F 14 k ∧ F 14 k + zlat k ≤ cy)) hf c83 (fun _ => ⟨zge_of c54, by rw [← h67]; exact zge_of c72⟩) | exact may_zero (P := (fun k => zbit (F 12 n) k → 0 ≤ F 14 k ∧ F 14 k + zlat k ≤ cy)) (fun z => zlt_not (z c44).1 c54) | exact may_zero (P := (fun k => zbit (F 12 n) k → 0 ≤ F 14 k ∧ F 14 k + zlat k ≤ cy)) (fun z => zlt_not (z c44).2 (by rw [← h67]; exact c72)) | exact may_skip (P := (fun k => zbit (F 12 n) k → 0 ≤ F 14 k ∧ F 14 k + zlat k ≤ cy)) hf (fun z => absurd z c44)))
              · refine z_iload 86 88 K 0 dX0_mayIssue_86 rfl rfl ?_
                refine z_if_eq 88 91 95 K dX0_mayIssue_88 rfl (by decide) (fun c88 => ?_) (fun c88 => ?_)
                · refine z_iconst 95 96 K 0 dX0_mayIssue_95 rfl (by decide) ?_
                  refine z_istore_n 96 97 K [(3, .int 0), (5, .int 0), (4, .int (nI m)), (0, .ref h0), (1, .int (nI n)), (2, .int cy)] dX0_mayIssue_96 rfl rfl (by decide) rfl ?_
                  refine z_iinc 97 100 K [(4, .int (nI (m + 1))), (3, .int 0), (5, .int 0), (0, .ref h0), (1, .int (nI n)), (2, .int cy)] 2 dX0_mayIssue_97 rfl rfl (nI_1 _) (by decide) rfl ?_
                  refine z_goto 100 25 K dX0_mayIssue_100 (by decide) ?_
                  exact z_lv [0, 1, 3, 4, 5] rfl (ih (m + 1) _ (by omega) (by omega) (by first | exact may_zero' (P := (fun k => zbit (F 12 n) k → 0 ≤ F 14 k ∧ F 14 k + zlat k ≤ cy)) hf c83 | exact may_one (P := (fun k => zbit (F 12 n) k → 0 ≤ F 14 k ∧ F 14 k + zlat k ≤ cy)) hf c83 (fun _ => ⟨zge_of c54, by rw [← h67]; exact zge_of c72⟩) | exact may_zero (P := (fun k => zbit (F 12 n) k → 0 ≤ F 14 k ∧ F 14 k + zlat k ≤ cy)) (fun z => zlt_not (z c44).1 c54) | exact may_zero (P := (fun k => zbit (F 12 n) k → 0 ≤ F 14 k ∧ F 14 k + zlat k ≤ cy)) (fun z => zlt_not (z c44).2 (by rw [← h67]; exact c72)) | exact may_skip (P := (fun k => zbit (F 12 n) k → 0 ≤ F 14 k ∧ F 14 k + zlat k ≤ cy)) hf (fun z => absurd z c44)))
                · exact absurd c88 (by decide)
            · refine z_iconst 75 76 K 1 dX0_mayIssue_75 rfl (by decide) ?_
              refine z_goto 76 80 K dX0_mayIssue_76 (by decide) ?_
              refine z_istore 80 82 K [(5, .int 1), (4, .int (nI m)), (3, .int f), (0, .ref h0), (1, .int (nI n)), (2, .int cy)] dX0_mayIssue_80 rfl (by decide) rfl ?_
              refine z_iload_n 82 83 K 2 dX0_mayIssue_82 rfl rfl rfl ?_
              refine z_if_eq 83 86 95 K dX0_mayIssue_83 rfl (by decide) (fun c83 => ?_) (fun c83 => ?_)
              · refine z_iconst 95 96 K 0 dX0_mayIssue_95 rfl (by decide) ?_
                refine z_istore_n 96 97 K [(3, .int 0), (5, .int 1), (4, .int (nI m)), (0, .ref h0), (1, .int (nI n)), (2, .int cy)] dX0_mayIssue_96 rfl rfl (by decide) rfl ?_
                refine z_iinc 97 100 K [(4, .int (nI (m + 1))), (3, .int 0), (5, .int 1), (0, .ref h0), (1, .int (nI n)), (2, .int cy)] 2 dX0_mayIssue_97 rfl rfl (nI_1 _) (by decide) rfl ?_
                refine z_goto 100 25 K dX0_mayIssue_100 (by decide) ?_
                exact z_lv [0, 1, 3, 4, 5] rfl (ih (m + 1) _ (by omega) (by omega) (by first | exact may_zero' (P := (fun k => zbit (F 12 n) k → 0 ≤ F 14 k ∧ F 14 k + zlat k ≤ cy)) hf c83 | exact may_one (P := (fun k => zbit (F 12 n) k → 0 ≤ F 14 k ∧ F 14 k + zlat k ≤ cy)) hf c83 (fun _ => ⟨zge_of c54, by rw [← h67]; exact zge_of c72⟩) | exact may_zero (P := (fun k => zbit (F 12 n) k → 0 ≤ F 14 k ∧ F 14 k + zlat k ≤ cy)) (fun z => zlt_not (z c44).1 c54) | exact may_zero (P := (fun k => zbit (F 12 n) k → 0 ≤ F 14 k ∧ F 14 k + zlat k ≤ cy)) (fun z => zlt_not (z c44).2 (by rw [← h67]; exact c72)) | exact may_skip (P := (fun k => zbit (F 12 n) k → 0 ≤ F 14 k ∧ F 14 k + zlat k ≤ cy)) hf (fun z => absurd z c44)))
              · refine z_iload 86 88 K 0 dX0_mayIssue_86 rfl rfl ?_
                refine z_if_eq 88 91 95 K dX0_mayIssue_88 rfl (by decide) (fun c88 => ?_) (fun c88 => ?_)
                · exact absurd c88 (by decide)
                · refine z_iconst 91 92 K 1 dX0_mayIssue_91 rfl (by decide) ?_
                  refine z_goto 92 96 K dX0_mayIssue_92 (by decide) ?_
                  refine z_istore_n 96 97 K [(3, .int 1), (5, .int 1), (4, .int (nI m)), (0, .ref h0), (1, .int (nI n)), (2, .int cy)] dX0_mayIssue_96 rfl rfl (by decide) rfl ?_
                  refine z_iinc 97 100 K [(4, .int (nI (m + 1))), (3, .int 1), (5, .int 1), (0, .ref h0), (1, .int (nI n)), (2, .int cy)] 2 dX0_mayIssue_97 rfl rfl (nI_1 _) (by decide) rfl ?_
                  refine z_goto 100 25 K dX0_mayIssue_100 (by decide) ?_
                  exact z_lv [0, 1, 3, 4, 5] rfl (ih (m + 1) _ (by omega) (by omega) (by first | exact may_zero' (P := (fun k => zbit (F 12 n) k → 0 ≤ F 14 k ∧ F 14 k + zlat k ≤ cy)) hf c83 | exact may_one (P := (fun k => zbit (F 12 n) k → 0 ≤ F 14 k ∧ F 14 k + zlat k ≤ cy)) hf c83 (fun _ => ⟨zge_of c54, by rw [← h67]; exact zge_of c72⟩) | exact may_zero (P := (fun k => zbit (F 12 n) k → 0 ≤ F 14 k ∧ F 14 k + zlat k ≤ cy)) (fun z => zlt_not (z c44).1 c54) | exact may_zero (P := (fun k => zbit (F 12 n) k → 0 ≤ F 14 k ∧ F 14 k + zlat k ≤ cy)) (fun z => zlt_not (z c44).2 (by rw [← h67]; exact c72)) | exact may_skip (P := (fun k => zbit (F 12 n) k → 0 ≤ F 14 k ∧ F 14 k + zlat k ≤ cy)) hf (fun z => absurd z c44)))
  refine z_aload_n 0 1 K 0 dX0_mayIssue_0 rfl rfl rfl ?_
  refine xg_11 1 4 K dX0_mayIssue_1 rfl ?_
  refine z_iload_n 4 5 K 1 dX0_mayIssue_4 rfl rfl rfl ?_
  refine xl_11 5 6 K n rfl (by omega) dX0_mayIssue_5 rfl ?_
  refine z_if_eq 6 9 18 K dX0_mayIssue_6 rfl (by decide) (fun c6 => ?_) (fun c6 => ?_)
  · refine z_iconst 18 19 K 0 dX0_mayIssue_18 rfl (by decide) ?_
    exact z_iret K E 19 dX0_mayIssue_19 rfl ⟨zB_f (fun z => by first | exact z.1 c6 | exact c15 z.2.1), rfl⟩
  · refine z_aload_n 9 10 K 0 dX0_mayIssue_9 rfl rfl rfl ?_
    refine xg_14 10 13 K dX0_mayIssue_10 rfl ?_
    refine z_iload_n 13 14 K 1 dX0_mayIssue_13 rfl rfl rfl ?_
    refine xl_14 14 15 K n rfl (by omega) dX0_mayIssue_14 rfl ?_
    refine z_if_lt 15 18 20 K dX0_mayIssue_15 rfl (by decide) (fun c15 => ?_) (fun c15 => ?_)
    · refine z_iconst 20 21 K 1 dX0_mayIssue_20 rfl (by decide) ?_
      refine z_istore_n 21 22 K [(3, .int 1), (0, .ref h0), (1, .int (nI n)), (2, .int cy)] dX0_mayIssue_21 rfl rfl (by decide) rfl ?_
      refine z_iconst 22 23 K (nI 0) dX0_mayIssue_22 rfl (by decide) ?_
      refine z_istore 23 25 K [(4, .int (nI 0)), (3, .int 1), (0, .ref h0), (1, .int (nI n)), (2, .int cy)] dX0_mayIssue_23 rfl (by decide) rfl ?_
      exact z_lv [0, 1, 2, 3, 4] rfl (loop c6 c15 29 0 _ (by omega) (by omega) (zB_t (fun k hk => absurd hk (by omega))))
    · refine z_iconst 18 19 K 0 dX0_mayIssue_18 rfl (by decide) ?_
      exact z_iret K E 19 dX0_mayIssue_19 rfl ⟨zB_f (fun z => by first | exact z.1 c6 | exact c15 z.2.1), rfl⟩

set_option maxHeartbeats 4000000 in
set_option maxRecDepth 100000 in
theorem m_issueOne (l : Launch) (D : va_G) (h0 : Nat) (ad : Nat → Nat) (cs : Nat → ClassId) (F : Nat → Nat → Int32) (L : Nat) (hL : F 15 0 = nI L) (cy : Int32) (hL28 : (∃ m, m < 28 ∧ zmay F m cy) → L < 28) : MV l yX0_issueOne cX0_issueOne 5 2 46 D (tyX cs) (wX h0 ad cs) [.ref h0, .int cy] F (fun F' => zIss F cy L F') := by
  refine MV_start [(0, .ref h0), (1, .int cy)] (by decide) (Nat.le_of_ble_eq_true rfl) rfl ?_
  intro Z K E
  have loop : ∀ (N m : Nat) (b : Int32), m ≤ 28 → 28 < m + N → ((b = -1 ∧ ∀ k, k < m → ¬ zmay F k cy) ∨ (∃ k, k < 28 ∧ b = nI k ∧ zmay F k cy)) → zG Z (wX h0 ad cs) 4 [(3, .int (nI m)), (2, .int b), (0, .ref h0), (1, .int cy)] [] F := by
    intro N
    induction N with
    | zero => intro m b h1 h2; exact absurd h2 (by omega)
    | succ N ih =>
      intro m b hm hN hb
      refine z_iload_n 4 5 K 0 dX0_issueOne_4 rfl rfl rfl ?_
      refine z_bipush 5 7 K 28 dX0_issueOne_5 rfl (by decide) ?_
      refine z_icmp_geN 7 10 50 K m 28 rfl rfl (by omega) (by omega) dX0_issueOne_7 rfl (by decide) (fun c7 => ?_) (fun c7 => ?_)
      · obtain rfl : m = 28 := by omega
        refine z_iload_n 50 51 K 1 dX0_issueOne_50 rfl rfl rfl ?_
        refine z_if_lt 51 54 81 K dX0_issueOne_51 rfl (by decide) (fun c51 => ?_) (fun c51 => ?_)
        · exact z_vret K E 81 dX0_issueOne_81 (by first | exact Or.inl ⟨rfl, by rcases hb with ⟨-, h⟩ | ⟨k, hk, h, -⟩; exact h; rw [h] at c51; exact absurd c51 (nI_pos (by omega))⟩ | exact Or.inr ⟨k, hk, hmk, by subst hbk; rfl⟩)
        · obtain ⟨k, hk, hbk, hmk⟩ : ∃ k, k < 28 ∧ b = nI k ∧ zmay F k cy := by
            rcases hb with ⟨h, -⟩ | h
            · exact absurd (by rw [h]; decide) c51
            · exact h
          refine z_aload_n 54 55 K 2 dX0_issueOne_54 rfl rfl rfl ?_
          refine xg_14 55 58 K dX0_issueOne_55 rfl ?_
          refine z_iload_n 58 59 K 1 dX0_issueOne_58 rfl rfl rfl ?_
          refine z_iload_n 59 60 K 3 dX0_issueOne_59 rfl rfl rfl ?_
          refine xs_14 60 61 K k hbk hk dX0_issueOne_60 rfl ?_
          refine z_aload_n 61 62 K 2 dX0_issueOne_61 rfl rfl rfl ?_
          refine xg_16 62 65 K dX0_issueOne_62 rfl ?_
          refine z_aload_n 65 66 K 2 dX0_issueOne_65 rfl rfl rfl ?_
          refine xg_15 66 69 K dX0_issueOne_66 rfl ?_
          refine z_iload_n 69 70 K 1 dX0_issueOne_69 rfl rfl rfl ?_
          refine xs_16 70 71 K L hL (hL28 ⟨k, hk, hmk⟩) dX0_issueOne_70 rfl ?_
          refine z_aload_n 71 72 K 2 dX0_issueOne_71 rfl rfl rfl ?_
          refine z_dup 72 73 K dX0_issueOne_72 rfl rfl ?_
          refine xg_15 73 76 K dX0_issueOne_73 rfl ?_
          refine z_iconst 76 77 K 1 dX0_issueOne_76 rfl (by decide) ?_
          refine z_iadd 77 78 K dX0_issueOne_77 rfl ?_
          refine z_top 78 (nI (L + 1)) ((congrArg (· + 1) hL).trans (nI_1 L)) ?_
          refine xp_15 78 81 K dX0_issueOne_78 rfl ?_
          exact z_vret K E 81 dX0_issueOne_81 (by first | exact Or.inl ⟨rfl, by rcases hb with ⟨-, h⟩ | ⟨k, hk, h, -⟩; exact h; rw [h] at c51; exact absurd c51 (nI_pos (by omega))⟩ | exact Or.inr ⟨k, hk, hmk, by subst hbk; rfl⟩)
      · refine z_aload_n 10 11 K 2 dX0_issueOne_10 rfl rfl rfl ?_
        refine z_iload_n 11 12 K 0 dX0_issueOne_11 rfl rfl rfl ?_
        refine z_iload_n 12 13 K 3 dX0_issueOne_12 rfl rfl rfl ?_
        refine z_calli (ci := 0) (q := (RX0, TX0, 23)) 13 16 2 K (m_mayIssue (zl Z) (zD Z) h0 ad cs _ m c7 cy) (lw_V q222 q224 qs14 q28 q225) (by decide +kernel) ⟨by decide, by decide⟩ rfl rfl rfl rfl (Nat.le_of_ble_eq_true rfl) dX0_issueOne_13 rfl (fun r13 G13 h13 => ?_)
        obtain ⟨h13, e9⟩ := h13
        replace e9 := e9.symm
        subst e9
        refine z_istore 16 18 K [(4, .int r13), (3, .int (nI m)), (2, .int b), (0, .ref h0), (1, .int cy)] dX0_issueOne_16 rfl (by decide) rfl ?_
        refine z_iload 18 20 K 0 dX0_issueOne_18 rfl rfl ?_
        refine z_if_eq 20 23 44 K dX0_issueOne_20 rfl (by decide) (fun c20 => ?_) (fun c20 => ?_)
        · refine z_iinc 44 47 K [(3, .int (nI (m + 1))), (4, .int r13), (2, .int b), (0, .ref h0), (1, .int cy)] 1 dX0_issueOne_44 rfl rfl (nI_1 _) (by decide) rfl ?_
          refine z_goto 47 4 K dX0_issueOne_47 (by decide) ?_
          exact z_lv [0, 2, 3, 4] rfl (ih (m + 1) _ (by omega) (by omega) (by first | exact Or.inr ⟨m, c7, rfl, zB_1 h13 c20⟩ | exact Or.inr ⟨k, hk, hbk, hmk⟩ | (rcases hb with ⟨h, h2⟩ | h; exact Or.inl ⟨h, lt_s h2 (zB_0 h13 c20)⟩; exact Or.inr h)))
        · refine z_iload_n 23 24 K 2 dX0_issueOne_23 rfl rfl rfl ?_
          refine z_if_lt 24 27 42 K dX0_issueOne_24 rfl (by decide) (fun c24 => ?_) (fun c24 => ?_)
          · refine z_iload_n 42 43 K 1 dX0_issueOne_42 rfl rfl rfl ?_
            refine z_istore_n 43 44 K [(2, .int (nI m)), (4, .int r13), (3, .int (nI m)), (0, .ref h0), (1, .int cy)] dX0_issueOne_43 rfl rfl (by decide) rfl ?_
            refine z_iinc 44 47 K [(3, .int (nI (m + 1))), (2, .int (nI m)), (4, .int r13), (0, .ref h0), (1, .int cy)] 2 dX0_issueOne_44 rfl rfl (nI_1 _) (by decide) rfl ?_
            refine z_goto 47 4 K dX0_issueOne_47 (by decide) ?_
            exact z_lv [0, 1, 3, 4] rfl (ih (m + 1) _ (by omega) (by omega) (by first | exact Or.inr ⟨m, c7, rfl, zB_1 h13 c20⟩ | exact Or.inr ⟨k, hk, hbk, hmk⟩ | (rcases hb with ⟨h, h2⟩ | h; exact Or.inl ⟨h, lt_s h2 (zB_0 h13 c20)⟩; exact Or.inr h)))
          · obtain ⟨k, hk, hbk, hmk⟩ : ∃ k, k < 28 ∧ b = nI k ∧ zmay F k cy := by
              rcases hb with ⟨h, -⟩ | h
              · exact absurd (by rw [h]; decide) c24
              · exact h
            refine z_aload_n 27 28 K 3 dX0_issueOne_27 rfl rfl rfl ?_
            refine xg_13 28 31 K dX0_issueOne_28 rfl ?_
            refine z_iload_n 31 32 K 1 dX0_issueOne_31 rfl rfl rfl ?_
            refine xl_13 32 33 K m rfl (by omega) dX0_issueOne_32 rfl ?_
            refine z_aload_n 33 34 K 3 dX0_issueOne_33 rfl rfl rfl ?_
            refine xg_13 34 37 K dX0_issueOne_34 rfl ?_
            refine z_iload_n 37 38 K 2 dX0_issueOne_37 rfl rfl rfl ?_
            refine xl_13 38 39 K k hbk hk dX0_issueOne_38 rfl ?_
            refine z_icmp_le 39 42 44 K dX0_issueOne_39 rfl (by decide) (fun c39 => ?_) (fun c39 => ?_)
            · refine z_iinc 44 47 K [(3, .int (nI (m + 1))), (4, .int r13), (2, .int b), (0, .ref h0), (1, .int cy)] 1 dX0_issueOne_44 rfl rfl (nI_1 _) (by decide) rfl ?_
              refine z_goto 47 4 K dX0_issueOne_47 (by decide) ?_
              exact z_lv [0, 2, 3, 4] rfl (ih (m + 1) _ (by omega) (by omega) (by first | exact Or.inr ⟨m, c7, rfl, zB_1 h13 c20⟩ | exact Or.inr ⟨k, hk, hbk, hmk⟩ | (rcases hb with ⟨h, h2⟩ | h; exact Or.inl ⟨h, lt_s h2 (zB_0 h13 c20)⟩; exact Or.inr h)))
            · refine z_iload_n 42 43 K 1 dX0_issueOne_42 rfl rfl rfl ?_
              refine z_istore_n 43 44 K [(2, .int (nI m)), (4, .int r13), (3, .int (nI m)), (0, .ref h0), (1, .int cy)] dX0_issueOne_43 rfl rfl (by decide) rfl ?_
              refine z_iinc 44 47 K [(3, .int (nI (m + 1))), (2, .int (nI m)), (4, .int r13), (0, .ref h0), (1, .int cy)] 2 dX0_issueOne_44 rfl rfl (nI_1 _) (by decide) rfl ?_
              refine z_goto 47 4 K dX0_issueOne_47 (by decide) ?_
              exact z_lv [0, 1, 3, 4] rfl (ih (m + 1) _ (by omega) (by omega) (by first | exact Or.inr ⟨m, c7, rfl, zB_1 h13 c20⟩ | exact Or.inr ⟨k, hk, hbk, hmk⟩ | (rcases hb with ⟨h, h2⟩ | h; exact Or.inl ⟨h, lt_s h2 (zB_0 h13 c20)⟩; exact Or.inr h)))
  refine z_iconst 0 1 K (-1) dX0_issueOne_0 rfl (by decide) ?_
  refine z_istore_n 1 2 K [(2, .int (-1)), (0, .ref h0), (1, .int cy)] dX0_issueOne_1 rfl rfl (by decide) rfl ?_
  refine z_iconst 2 3 K (nI 0) dX0_issueOne_2 rfl (by decide) ?_
  refine z_istore_n 3 4 K [(3, .int (nI 0)), (2, .int (-1)), (0, .ref h0), (1, .int cy)] dX0_issueOne_3 rfl rfl (by decide) rfl ?_
  exact z_lv [0, 1, 2, 3] rfl (loop 29 0 _ (by omega) (by omega) (Or.inl ⟨rfl, fun k hk => absurd hk (by omega)⟩))
end
section
/-! words and plain laws of the running methods -/
theorem z_gen {σ : Type} {Z : zz_T} {w : σ → va_W} {lv : List (Nat × Value)} {st : List Value} {F : σ} {x : Int32} (pc : Nat) (h : ∀ y : Int32, y = x → zG Z w pc lv (.int y :: st) F) : zG Z w pc lv (.int x :: st) F := h x rfl
noncomputable def zsel {α : Type} (c : Prop) (a b : α) : α := @ite α c (Classical.propDecidable c) a b
theorem zsel_t {α : Type} {c : Prop} {a b : α} (h : c) : zsel c a b = a := by unfold zsel; exact if_pos h
theorem zsel_f {α : Type} {c : Prop} {a b : α} (h : ¬ c) : zsel c a b = b := by unfold zsel; exact if_neg h
/-- the watch table tells the truth: an entry's load is among E, its address is sound, its early value is the word there -/
def zWI (F : Nat → Nat → Int32) (E : Nat → Prop) : Prop := ∀ w, w < 4 → F 21 w = -1 ∨ ∃ i, i < 14 ∧ E i ∧ F 21 w = nI i ∧ ¬ zflt F (F 22 w) ∧ F 18 i = F 7 (F 22 w).toNatClampNeg
def zVi (F : Nat → Nat → Int32) : Prop := ∃ v, v < 4 ∧ F 20 0 = nI v
theorem zWI_keep {F F' : Nat → Nat → Int32} {E E' : Nat → Prop} (h : zWI F E) (hE : ∀ i, E i → E' i) (h7 : F' 7 = F 7) (h8 : F' 8 = F 8) (h18 : F' 18 = F 18) (h21 : F' 21 = F 21) (h22 : F' 22 = F 22) : zWI F' E' := by
  intro w hw
  rw [h21, h22, h7, h18]
  rcases h w hw with h | ⟨i, a, b, c, d, e⟩
  · exact Or.inl h
  · refine Or.inr ⟨i, a, hE i b, c, ?_, e⟩
    unfold zflt
    rw [h8]
    exact d
theorem zWI_load {F F' : Nat → Nat → Int32} {E : Nat → Prop} {i v : Nat} {x : Int32} (h : zWI F E) (hi : i < 14) (hE : ¬ E i) (hx : ¬ zflt F x) (h7 : F' 7 = F 7) (h8 : F' 8 = F 8) (h18 : F' 18 = upd (F 18) i (F 7 x.toNatClampNeg)) (h21 : F' 21 = upd (F 21) v (nI i)) (h22 : F' 22 = upd (F 22) v x) : zWI F' (fun j => E j ∨ j = i) := by
  intro w hw
  have hf : ∀ z, zflt F' z ↔ zflt F z := fun z => by unfold zflt; rw [h8]
  by_cases hv : w = v
  · subst hv
    refine Or.inr ⟨i, hi, Or.inr rfl, by rw [h21]; exact pk_us, ?_, ?_⟩
    · rw [hf, h22, pk_us]; exact hx
    · rw [h18, h22, h7, pk_us, pk_us]
  · rw [h21, h22, pk_un hv, pk_un hv]
    rcases h w hw with h | ⟨j, a, b, c, d, e⟩
    · exact Or.inl h
    · refine Or.inr ⟨j, a, Or.inl b, c, fun z => d ((hf _).mp z), ?_⟩
      have hji : j ≠ i := fun q => hE (q ▸ b)
      rw [h18, h7, pk_un hji]
      exact e
theorem zWI_hit {F : Nat → Nat → Int32} {E : Nat → Prop} {i : Nat} {x : Int32} (h : zWI F E) (hi : i < 14) (k : ∃ w, w < 4 ∧ F 21 w = nI i ∧ F 22 w = x) : ¬ zflt F x ∧ F 18 i = F 7 x.toNatClampNeg := by
  obtain ⟨w, hw, h1, h2⟩ := k
  rcases h w hw with h | ⟨j, a, b, c, d, e⟩
  · rw [h1] at h
    exact absurd h (nI_ne_m1 (by omega))
  · have : i = j := (nI_eq (by omega) (by omega)).mp (h1.symm.trans c)
    subst this
    rw [h2] at d e
    exact ⟨d, e⟩
theorem zcl_inj {x y : Int32} {n : Nat} (hn : n < 2 ^ 31) (hx : vp_in x n) (hy : vp_in y n) (e : x.toNatClampNeg = y.toNatClampNeg) : x = y := by
  obtain ⟨i, hi, rfl⟩ := vp_in_of hx hn
  obtain ⟨j, hj, rfl⟩ := vp_in_of hy hn
  rw [nI_clamp (by omega), nI_clamp (by omega)] at e
  rw [e]
theorem zWI_store {F F' : Nat → Nat → Int32} {E : Nat → Prop} {x v : Int32} (h : zWI F E) (hx : ¬ zflt F x) (h7 : F' 7 = upd (F 7) x.toNatClampNeg v) (h8 : F' 8 = F 8) (h18 : F' 18 = F 18) (h22 : F' 22 = F 22) (h21 : ∀ w, w < 4 → (F 22 w = x → F' 21 w = -1) ∧ (¬ F 22 w = x → F' 21 w = F 21 w)) : zWI F' E := by
  intro w hw
  have hf : ∀ z, zflt F' z ↔ zflt F z := fun z => by unfold zflt; rw [h8]
  by_cases hv : F 22 w = x
  · exact Or.inl ((h21 w hw).1 hv)
  · rw [(h21 w hw).2 hv, h22]
    rcases h w hw with h | ⟨j, a, b, c, d, e⟩
    · exact Or.inl h
    · refine Or.inr ⟨j, a, b, c, fun z => d ((hf _).mp z), ?_⟩
      have hne : (F 22 w).toNatClampNeg ≠ x.toNatClampNeg := fun q => hv (zcl_inj (by decide) (zbadA_in (fun z => d (Or.inl z))) (zbadA_in (fun z => hx (Or.inl z))) q)
      rw [h18, h7, pk_un hne]
      exact e
/-- instruction i is well made -/
def zwf (F : Nat → Nat → Int32) (i : Nat) : Prop :=
  (F 1 i = 0 ∧ vp_in (F 2 i) 8 ∧ F 3 i = -1 ∧ F 4 i = -1) ∨ (F 1 i = 1 ∧ vp_in (F 2 i) 8 ∧ vp_in (F 3 i) 8 ∧ vp_in (F 4 i) 8) ∨ (F 1 i = 2 ∧ vp_in (F 2 i) 8 ∧ vp_in (F 3 i) 8 ∧ vp_in (F 4 i) 8) ∨
  (F 1 i = 3 ∧ vp_in (F 2 i) 8 ∧ vp_in (F 3 i) 8 ∧ F 4 i = -1) ∨ (F 1 i = 4 ∧ F 2 i = -1 ∧ vp_in (F 3 i) 8 ∧ vp_in (F 4 i) 8) ∨ (F 1 i = 5 ∧ F 2 i = -1 ∧ vp_in (F 3 i) 8 ∧ F 4 i = -1)
theorem zwf_3 {F : Nat → Nat → Int32} {i : Nat} (h : zwf F i) (e : F 1 i = 3) : vp_in (F 2 i) 8 ∧ vp_in (F 3 i) 8 := by
  rcases h with h | h | h | h | h | h <;> obtain ⟨h1, h2, h3, h4⟩ := h <;> first | exact ⟨h2, h3⟩ | (rw [h1] at e; exact absurd e (by decide))
theorem zwf_4 {F : Nat → Nat → Int32} {i : Nat} (h : zwf F i) (e : F 1 i = 4) : vp_in (F 3 i) 8 ∧ vp_in (F 4 i) 8 := by
  rcases h with h | h | h | h | h | h <;> obtain ⟨h1, h2, h3, h4⟩ := h <;> first | exact ⟨h3, h4⟩ | (rw [h1] at e; exact absurd e (by decide))
theorem zwf_5 {F : Nat → Nat → Int32} {i : Nat} (h : zwf F i) (e : F 1 i = 5) : vp_in (F 3 i) 8 := by
  rcases h with h | h | h | h | h | h <;> obtain ⟨h1, h2, h3, h4⟩ := h <;> first | exact h3 | (rw [h1] at e; exact absurd e (by decide))
theorem zwf_0 {F : Nat → Nat → Int32} {i : Nat} (h : zwf F i) (e : F 1 i = 0) : vp_in (F 2 i) 8 := by
  rcases h with h | h | h | h | h | h <;> obtain ⟨h1, h2, h3, h4⟩ := h <;> first | exact h2 | (rw [h1] at e; exact absurd e (by decide))
theorem zwf_1 {F : Nat → Nat → Int32} {i : Nat} (h : zwf F i) (e3 : ¬ F 1 i = 3) (e4 : ¬ F 1 i = 4) (e5 : ¬ F 1 i = 5) (e0 : ¬ F 1 i = 0) : (F 1 i = 1 ∨ F 1 i = 2) ∧ vp_in (F 2 i) 8 ∧ vp_in (F 3 i) 8 ∧ vp_in (F 4 i) 8 := by
  rcases h with h | h | h | h | h | h <;> obtain ⟨h1, h2, h3, h4⟩ := h
  · exact absurd h1 e0
  · exact ⟨Or.inl h1, h2, h3, h4⟩
  · exact ⟨Or.inr h1, h2, h3, h4⟩
  · exact absurd h1 e3
  · exact absurd h1 e4
  · exact absurd h1 e5
/-- the address of a load or store -/
def zad (P : Nat → Nat → Int32) (i : Nat) (R : Nat → Int32) : Int32 := R (P 3 i).toNatClampNeg + P 5 i
/-- one instruction on registers and words: -1 if the run goes on, else what it ends with -/
noncomputable def zxs (P : Nat → Nat → Int32) (i : Nat) (R M : Nat → Int32) : Int32 × (Nat → Int32) × (Nat → Int32) :=
  if P 1 i = 3 then zsel (zflt P (zad P i R)) (nI (2 + 4 * i), R, M) (-1, upd R (P 2 i).toNatClampNeg (M (zad P i R).toNatClampNeg), M)
  else if P 1 i = 4 then zsel (zflt P (zad P i R)) (nI (2 + 4 * i), R, M) (-1, R, upd M (zad P i R).toNatClampNeg (R (P 4 i).toNatClampNeg))
  else if P 1 i = 5 then (if R (P 3 i).toNatClampNeg = 0 then (-1, R, M) else (nI (1 + 4 * i), R, M))
  else if P 1 i = 0 then (-1, upd R (P 2 i).toNatClampNeg (P 5 i), M)
  else if P 1 i = 1 then (-1, upd R (P 2 i).toNatClampNeg (R (P 3 i).toNatClampNeg + R (P 4 i).toNatClampNeg), M)
  else (-1, upd R (P 2 i).toNatClampNeg (R (P 3 i).toNatClampNeg - R (P 4 i).toNatClampNeg), M)
section XS
variable {P : Nat → Nat → Int32} {i : Nat} {R M : Nat → Int32}
theorem zxs_ldf (h : P 1 i = 3) (hf : zflt P (zad P i R)) : zxs P i R M = (nI (2 + 4 * i), R, M) := by unfold zxs; rw [if_pos h, zsel_t hf]
theorem zxs_ld (h : P 1 i = 3) (hf : ¬ zflt P (zad P i R)) : zxs P i R M = (-1, upd R (P 2 i).toNatClampNeg (M (zad P i R).toNatClampNeg), M) := by unfold zxs; rw [if_pos h, zsel_f hf]
theorem zxs_stf (h : P 1 i = 4) (hf : zflt P (zad P i R)) : zxs P i R M = (nI (2 + 4 * i), R, M) := by unfold zxs; rw [if_neg (by rw [h]; decide), if_pos h, zsel_t hf]
theorem zxs_st (h : P 1 i = 4) (hf : ¬ zflt P (zad P i R)) : zxs P i R M = (-1, R, upd M (zad P i R).toNatClampNeg (R (P 4 i).toNatClampNeg)) := by unfold zxs; rw [if_neg (by rw [h]; decide), if_pos h, zsel_f hf]
theorem zxs_lv0 (h : P 1 i = 5) (hf : R (P 3 i).toNatClampNeg = 0) : zxs P i R M = (-1, R, M) := by unfold zxs; rw [if_neg (by rw [h]; decide), if_neg (by rw [h]; decide), if_pos h, if_pos hf]
theorem zxs_lv1 (h : P 1 i = 5) (hf : ¬ R (P 3 i).toNatClampNeg = 0) : zxs P i R M = (nI (1 + 4 * i), R, M) := by unfold zxs; rw [if_neg (by rw [h]; decide), if_neg (by rw [h]; decide), if_pos h, if_neg hf]
theorem zxs_c (h : P 1 i = 0) : zxs P i R M = (-1, upd R (P 2 i).toNatClampNeg (P 5 i), M) := by unfold zxs; rw [if_neg (by rw [h]; decide), if_neg (by rw [h]; decide), if_neg (by rw [h]; decide), if_pos h]
theorem zxs_a (h : P 1 i = 1) : zxs P i R M = (-1, upd R (P 2 i).toNatClampNeg (R (P 3 i).toNatClampNeg + R (P 4 i).toNatClampNeg), M) := by unfold zxs; rw [if_neg (by rw [h]; decide), if_neg (by rw [h]; decide), if_neg (by rw [h]; decide), if_neg (by rw [h]; decide), if_pos h]
theorem zxs_s (h : P 1 i = 2) : zxs P i R M = (-1, upd R (P 2 i).toNatClampNeg (R (P 3 i).toNatClampNeg - R (P 4 i).toNatClampNeg), M) := by unfold zxs; rw [if_neg (by rw [h]; decide), if_neg (by rw [h]; decide), if_neg (by rw [h]; decide), if_neg (by rw [h]; decide), if_neg (by rw [h]; decide)]
end XS
end
section
/-! contracts of the running methods (printed by gen3.py) -/
set_option maxRecDepth 100000
set_option maxHeartbeats 4000000 in
set_option maxRecDepth 100000 in
theorem m_faults (l : Launch) (D : va_G) (h0 : Nat) (ad : Nat → Nat) (cs : Nat → ClassId) (F : Nat → Nat → Int32) (x : Int32) : MI l yX0_faults cX0_faults 2 .boolean 1 21 D (tyX cs) (wX h0 ad cs) [.ref h0, .int x] F (fun r F' => zB r (zflt F x) ∧ F' = F) := by
  refine MI_start [(0, .ref h0), (1, .int x)] (by decide) (Nat.le_of_ble_eq_true rfl) rfl ?_
  intro Z K E
  refine z_aload_n 0 1 K 0 dX0_faults_0 rfl rfl rfl ?_
  refine z_iload_n 1 2 K 1 dX0_faults_1 rfl rfl rfl ?_
  refine z_calli (ci := 0) (q := (RX0, TX0, 23)) 2 5 1 K (m_badAddress (zl Z) (zD Z) h0 ad cs _ x) (lw_V q162 q164 qs2 q28 q165) (by decide +kernel) ⟨by decide, by decide⟩ rfl rfl rfl rfl (Nat.le_of_ble_eq_true rfl) dX0_faults_2 rfl (fun r2 G2 h2 => ?_)
  obtain ⟨h2, e9⟩ := h2
  replace e9 := e9.symm
  subst e9
  refine z_if_ne 5 8 17 K dX0_faults_5 rfl (by decide) (fun c5 => ?_) (fun c5 => ?_)
  · have k5 := zB_1 h2 c5
    refine z_iconst 17 18 K 1 dX0_faults_17 rfl (by decide) ?_
    refine z_goto 18 22 K dX0_faults_18 (by decide) ?_
    exact z_iret K E 22 dX0_faults_22 rfl ⟨zB_t (by first | exact Or.inl k5 | exact Or.inr c14), rfl⟩
  · have k5 := zB_0 h2 c5
    refine z_aload_n 8 9 K 0 dX0_faults_8 rfl rfl rfl ?_
    refine xg_8 9 12 K dX0_faults_9 rfl ?_
    refine z_iload_n 12 13 K 1 dX0_faults_12 rfl rfl rfl ?_
    refine xL_8 13 14 K (zbadA_in k5) dX0_faults_13 rfl ?_
    refine z_if_eq 14 17 21 K dX0_faults_14 rfl (by decide) (fun c14 => ?_) (fun c14 => ?_)
    · refine z_iconst 21 22 K 0 dX0_faults_21 rfl (by decide) ?_
      exact z_iret K E 22 dX0_faults_22 rfl ⟨zB_f (fun z => z.elim k5 (fun z => z c14)), rfl⟩
    · refine z_iconst 17 18 K 1 dX0_faults_17 rfl (by decide) ?_
      refine z_goto 18 22 K dX0_faults_18 (by decide) ?_
      exact z_iret K E 22 dX0_faults_22 rfl ⟨zB_t (by first | exact Or.inl k5 | exact Or.inr c14), rfl⟩

set_option maxHeartbeats 4000000 in
set_option maxRecDepth 100000 in
theorem m_watch (l : Launch) (D : va_G) (h0 : Nat) (ad : Nat → Nat) (cs : Nat → ClassId) (F : Nat → Nat → Int32) (v : Nat) (hv4 : v < 4) (hv : F 20 0 = nI v) (i x : Int32) : MV l yX0_watch cX0_watch 3 0 0 D (tyX cs) (wX h0 ad cs) [.ref h0, .int i, .int x] F (fun F' => ∃ v', v' < 4 ∧ F' = zput (zput (zput F 21 (upd (F 21) v i)) 22 (upd (F 22) v x)) 20 (fun _ => nI v')) := by
  refine MV_start [(0, .ref h0), (1, .int i), (2, .int x)] (by decide) (Nat.le_of_ble_eq_true rfl) rfl ?_
  intro Z K E
  refine z_aload_n 0 1 K 0 dX0_watch_0 rfl rfl rfl ?_
  refine xg_21 1 4 K dX0_watch_1 rfl ?_
  refine z_aload_n 4 5 K 0 dX0_watch_4 rfl rfl rfl ?_
  refine xg_20 5 8 K dX0_watch_5 rfl ?_
  refine z_iload_n 8 9 K 1 dX0_watch_8 rfl rfl rfl ?_
  refine xs_21 9 10 K v hv (by omega) dX0_watch_9 rfl ?_
  refine z_aload_n 10 11 K 0 dX0_watch_10 rfl rfl rfl ?_
  refine xg_22 11 14 K dX0_watch_11 rfl ?_
  refine z_aload_n 14 15 K 0 dX0_watch_14 rfl rfl rfl ?_
  refine xg_20 15 18 K dX0_watch_15 rfl ?_
  refine z_iload_n 18 19 K 2 dX0_watch_18 rfl rfl rfl ?_
  refine xs_22 19 20 K v hv (by omega) dX0_watch_19 rfl ?_
  refine z_aload_n 20 21 K 0 dX0_watch_20 rfl rfl rfl ?_
  refine z_aload_n 21 22 K 0 dX0_watch_21 rfl rfl rfl ?_
  refine xg_20 22 25 K dX0_watch_22 rfl ?_
  refine z_iconst 25 26 K 1 dX0_watch_25 rfl (by decide) ?_
  refine z_iadd 26 27 K dX0_watch_26 rfl ?_
  refine z_top 27 (nI (v + 1)) ((congrArg (· + 1) hv).trans (nI_1 v)) ?_
  refine z_iconst 27 28 K 4 dX0_watch_27 rfl (by decide) ?_
  refine z_icmp_ne 28 31 35 K dX0_watch_28 rfl (by decide) (fun c28 => ?_) (fun c28 => ?_)
  · refine z_aload_n 35 36 K 0 dX0_watch_35 rfl rfl rfl ?_
    refine xg_20 36 39 K dX0_watch_36 rfl ?_
    refine z_iconst 39 40 K 1 dX0_watch_39 rfl (by decide) ?_
    refine z_iadd 40 41 K dX0_watch_40 rfl ?_
    refine z_top 41 (nI (v + 1)) ((congrArg (· + 1) hv).trans (nI_1 v)) ?_
    refine xp_20 41 44 K dX0_watch_41 rfl ?_
    exact z_vret K E 44 dX0_watch_44 ⟨v + 1, by rcases Nat.lt_or_ge (v + 1) 4 with q | q; exact q; exact absurd (by rw [show v + 1 = 4 by omega]; rfl) c28, rfl⟩
  · refine z_iconst 31 32 K (nI 0) dX0_watch_31 rfl (by decide) ?_
    refine z_goto 32 41 K dX0_watch_32 (by decide) ?_
    refine xp_20 41 44 K dX0_watch_41 rfl ?_
    exact z_vret K E 44 dX0_watch_44 ⟨0, by omega, rfl⟩

set_option maxHeartbeats 4000000 in
set_option maxRecDepth 100000 in
theorem m_stored (l : Launch) (D : va_G) (h0 : Nat) (ad : Nat → Nat) (cs : Nat → ClassId) (F : Nat → Nat → Int32) (x : Int32) : MV l yX0_stored cX0_stored 3 0 0 D (tyX cs) (wX h0 ad cs) [.ref h0, .int x] F (fun F' => zsame [21] F F' ∧ ∀ w, w < 4 → (F 22 w = x → F' 21 w = -1) ∧ (¬ F 22 w = x → F' 21 w = F 21 w)) := by
  refine MV_start [(0, .ref h0), (1, .int x)] (by decide) (Nat.le_of_ble_eq_true rfl) rfl ?_
  intro Z K E
  have loop : ∀ (N k : Nat) (G : Nat → Nat → Int32), k ≤ 4 → 4 < k + N → zsame [21] F G → (∀ w, w < k → (F 22 w = x → G 21 w = -1) ∧ (¬ F 22 w = x → G 21 w = F 21 w)) → (∀ w, k ≤ w → G 21 w = F 21 w) → zG Z (wX h0 ad cs) 2 [(2, .int (nI k)), (0, .ref h0), (1, .int x)] [] G := by
    intro N
    induction N with
    | zero => intro k G h1 h2; exact absurd h2 (by omega)
    | succ N ih =>
      intro k G hk hN hG h1 h2
      have e22 : G 22 = F 22 := hG 22 (by decide)
      refine z_iload_n 2 3 K 0 dX0_stored_2 rfl rfl rfl ?_
      refine z_iconst 3 4 K 4 dX0_stored_3 rfl (by decide) ?_
      refine z_icmp_geN 4 7 30 K k 4 rfl rfl (by omega) (by omega) dX0_stored_4 rfl (by decide) (fun c4 => ?_) (fun c4 => ?_)
      · exact z_vret K E 30 dX0_stored_30 ⟨hG, fun w hw => h1 w (by omega)⟩
      · refine z_aload_n 7 8 K 1 dX0_stored_7 rfl rfl rfl ?_
        refine xg_22 8 11 K dX0_stored_8 rfl ?_
        refine z_iload_n 11 12 K 0 dX0_stored_11 rfl rfl rfl ?_
        refine xl_22 12 13 K k rfl (by omega) dX0_stored_12 rfl ?_
        refine z_iload_n 13 14 K 2 dX0_stored_13 rfl rfl rfl ?_
        refine z_icmp_ne 14 17 24 K dX0_stored_14 rfl (by decide) (fun c14 => ?_) (fun c14 => ?_)
        · refine z_iinc 24 27 K [(2, .int (nI (k + 1))), (0, .ref h0), (1, .int x)] 0 dX0_stored_24 rfl rfl (nI_1 _) (by decide) rfl ?_
          refine z_goto 27 2 K dX0_stored_27 (by decide) ?_
          rw [e22] at c14
          exact z_lv [0, 1, 2] rfl (ih (k + 1) _ (by omega) (by omega) hG (lt_s h1 ⟨fun q => absurd q c14, fun _ => h2 k (Nat.le_refl k)⟩) (fun w hw => h2 w (by omega)))
        · refine z_aload_n 17 18 K 1 dX0_stored_17 rfl rfl rfl ?_
          refine xg_21 18 21 K dX0_stored_18 rfl ?_
          refine z_iload_n 21 22 K 0 dX0_stored_21 rfl rfl rfl ?_
          refine z_iconst 22 23 K (-1) dX0_stored_22 rfl (by decide) ?_
          refine xs_21 23 24 K k rfl (by omega) dX0_stored_23 rfl ?_
          refine z_iinc 24 27 K [(2, .int (nI (k + 1))), (0, .ref h0), (1, .int x)] 0 dX0_stored_24 rfl rfl (nI_1 _) (by decide) rfl ?_
          refine z_goto 27 2 K dX0_stored_27 (by decide) ?_
          rw [e22] at c14
          exact z_lv [0, 1, 2] rfl (ih (k + 1) _ (by omega) (by omega) (zsame_put hG (by decide)) (lt_s (fun w hw => by rw [zput_s, pk_un (by omega)]; exact h1 w hw) ⟨fun _ => by rw [zput_s, pk_us], fun q => absurd c14 q⟩) (fun w hw => by rw [zput_s, pk_un (by omega)]; exact h2 w (by omega)))
  refine z_iconst 0 1 K (nI 0) dX0_stored_0 rfl (by decide) ?_
  refine z_istore_n 1 2 K [(2, .int (nI 0)), (0, .ref h0), (1, .int x)] dX0_stored_1 rfl rfl (by decide) rfl ?_
  exact z_lv [0, 1, 2] rfl (loop 5 0 _ (by omega) (by omega) (zsame_rf _ _) (fun w hw => absurd hw (by omega)) (fun _ _ => rfl))

set_option maxHeartbeats 4000000 in
set_option maxRecDepth 100000 in
theorem m_stillWatched (l : Launch) (D : va_G) (h0 : Nat) (ad : Nat → Nat) (cs : Nat → ClassId) (F : Nat → Nat → Int32) (i x : Int32) : MI l yX0_stillWatched cX0_stillWatched 5 .boolean 0 0 D (tyX cs) (wX h0 ad cs) [.ref h0, .int i, .int x] F (fun r F' => zB r (∃ w, w < 4 ∧ F 21 w = i ∧ F 22 w = x) ∧ F' = F) := by
  refine MI_start [(0, .ref h0), (1, .int i), (2, .int x)] (by decide) (Nat.le_of_ble_eq_true rfl) rfl ?_
  intro Z K E
  have loop : ∀ (N k : Nat) (f : Int32), k ≤ 4 → 4 < k + N → zB f (∃ w, w < k ∧ F 21 w = i ∧ F 22 w = x) → zG Z (wX h0 ad cs) 5 [(4, .int (nI k)), (3, .int f), (0, .ref h0), (1, .int i), (2, .int x)] [] F := by
    intro N
    induction N with
    | zero => intro k f h1 h2; exact absurd h2 (by omega)
    | succ N ih =>
      intro k f hk hN hf
      refine z_iload 5 7 K 0 dX0_stillWatched_5 rfl rfl ?_
      refine z_iconst 7 8 K 4 dX0_stillWatched_7 rfl (by decide) ?_
      refine z_icmp_geN 8 11 41 K k 4 rfl rfl (by omega) (by omega) dX0_stillWatched_8 rfl (by decide) (fun c8 => ?_) (fun c8 => ?_)
      · obtain rfl : k = 4 := by omega
        refine z_iload_n 41 42 K 1 dX0_stillWatched_41 rfl rfl rfl ?_
        exact z_iret K E 42 dX0_stillWatched_42 (zB_n hf) ⟨hf, rfl⟩
      · refine z_aload_n 11 12 K 2 dX0_stillWatched_11 rfl rfl rfl ?_
        refine xg_21 12 15 K dX0_stillWatched_12 rfl ?_
        refine z_iload 15 17 K 0 dX0_stillWatched_15 rfl rfl ?_
        refine xl_21 17 18 K k rfl (by omega) dX0_stillWatched_17 rfl ?_
        refine z_iload_n 18 19 K 3 dX0_stillWatched_18 rfl rfl rfl ?_
        refine z_icmp_ne 19 22 35 K dX0_stillWatched_19 rfl (by decide) (fun c19 => ?_) (fun c19 => ?_)
        · refine z_iinc 35 38 K [(4, .int (nI (k + 1))), (3, .int f), (0, .ref h0), (1, .int i), (2, .int x)] 0 dX0_stillWatched_35 rfl rfl (nI_1 _) (by decide) rfl ?_
          refine z_goto 38 5 K dX0_stillWatched_38 (by decide) ?_
          exact z_lv [0, 1, 2, 3, 4] rfl (ih (k + 1) _ (by omega) (by omega) (zB_iff ⟨fun ⟨w, hw, q⟩ => ⟨w, by omega, q⟩, fun ⟨w, hw, q⟩ => ⟨w, by rcases Nat.lt_or_ge w k with z | z; exact z; exact absurd (by rw [← show w = k by omega]; exact q.1) c19, q⟩⟩ hf))
        · refine z_aload_n 22 23 K 2 dX0_stillWatched_22 rfl rfl rfl ?_
          refine xg_22 23 26 K dX0_stillWatched_23 rfl ?_
          refine z_iload 26 28 K 0 dX0_stillWatched_26 rfl rfl ?_
          refine xl_22 28 29 K k rfl (by omega) dX0_stillWatched_28 rfl ?_
          refine z_iload_n 29 30 K 4 dX0_stillWatched_29 rfl rfl rfl ?_
          refine z_icmp_ne 30 33 35 K dX0_stillWatched_30 rfl (by decide) (fun c30 => ?_) (fun c30 => ?_)
          · refine z_iinc 35 38 K [(4, .int (nI (k + 1))), (3, .int f), (0, .ref h0), (1, .int i), (2, .int x)] 0 dX0_stillWatched_35 rfl rfl (nI_1 _) (by decide) rfl ?_
            refine z_goto 38 5 K dX0_stillWatched_38 (by decide) ?_
            exact z_lv [0, 1, 2, 3, 4] rfl (ih (k + 1) _ (by omega) (by omega) (zB_iff ⟨fun ⟨w, hw, q⟩ => ⟨w, by omega, q⟩, fun ⟨w, hw, q⟩ => ⟨w, by rcases Nat.lt_or_ge w k with z | z; exact z; exact absurd (by rw [← show w = k by omega]; exact q.2) c30, q⟩⟩ hf))
          · refine z_iconst 33 34 K 1 dX0_stillWatched_33 rfl (by decide) ?_
            refine z_istore_n 34 35 K [(3, .int 1), (4, .int (nI k)), (0, .ref h0), (1, .int i), (2, .int x)] dX0_stillWatched_34 rfl rfl (by decide) rfl ?_
            refine z_iinc 35 38 K [(4, .int (nI (k + 1))), (3, .int 1), (0, .ref h0), (1, .int i), (2, .int x)] 1 dX0_stillWatched_35 rfl rfl (nI_1 _) (by decide) rfl ?_
            refine z_goto 38 5 K dX0_stillWatched_38 (by decide) ?_
            exact z_lv [0, 1, 2, 3, 4] rfl (ih (k + 1) _ (by omega) (by omega) (zB_t ⟨k, by omega, c19, c30⟩))
  refine z_iconst 0 1 K 0 dX0_stillWatched_0 rfl (by decide) ?_
  refine z_istore_n 1 2 K [(3, .int 0), (0, .ref h0), (1, .int i), (2, .int x)] dX0_stillWatched_1 rfl rfl (by decide) rfl ?_
  refine z_iconst 2 3 K (nI 0) dX0_stillWatched_2 rfl (by decide) ?_
  refine z_istore 3 5 K [(4, .int (nI 0)), (3, .int 0), (0, .ref h0), (1, .int i), (2, .int x)] dX0_stillWatched_3 rfl (by decide) rfl ?_
  exact z_lv [0, 1, 2, 3, 4] rfl (loop 5 0 _ (by omega) (by omega) (zB_f (fun ⟨w, hw, _⟩ => absurd hw (by omega))))

set_option maxHeartbeats 4000000 in
set_option maxRecDepth 100000 in
theorem m_loadEarly (l : Launch) (D : va_G) (h0 : Nat) (ad : Nat → Nat) (cs : Nat → ClassId) (F : Nat → Nat → Int32) (Ex : Nat → Prop) (i : Nat) (hi : i < 14) (hs : F 17 i = -1 ∨ ∃ s, s < 14 ∧ F 17 i = nI s) (hle : vp_in (F 3 i) 8) (hv : zVi F) (hW : zWI F Ex) (hE : ¬ Ex i) : MV l yX0_loadEarly cX0_loadEarly 5 2 42 D (tyX cs) (wX h0 ad cs) [.ref h0, .int (nI i)] F (fun F' => zsame [18, 19, 20, 21, 22] F F' ∧ zVi F' ∧ zWI F' (fun j => Ex j ∨ j = i)) := by
  refine MV_start [(0, .ref h0), (1, .int (nI i))] (by decide) (Nat.le_of_ble_eq_true rfl) rfl ?_
  intro Z K E
  obtain ⟨v, hv4, hvv⟩ := id hv
  refine z_aload_n 0 1 K 0 dX0_loadEarly_0 rfl rfl rfl ?_
  refine xg_17 1 4 K dX0_loadEarly_1 rfl ?_
  refine z_iload_n 4 5 K 1 dX0_loadEarly_4 rfl rfl rfl ?_
  refine xl_17 5 6 K i rfl (by omega) dX0_loadEarly_5 rfl ?_
  refine z_istore_n 6 7 K [(2, .int (F 17 i)), (0, .ref h0), (1, .int (nI i))] dX0_loadEarly_6 rfl rfl (by decide) rfl ?_
  refine z_aload_n 7 8 K 1 dX0_loadEarly_7 rfl rfl rfl ?_
  refine xg_19 8 11 K dX0_loadEarly_8 rfl ?_
  refine z_iload_n 11 12 K 2 dX0_loadEarly_11 rfl rfl rfl ?_
  refine z_iconst 12 13 K 0 dX0_loadEarly_12 rfl (by decide) ?_
  refine xs_19 13 14 K i 0 (by decide) rfl (by omega) dX0_loadEarly_13 rfl ?_
  refine z_iload_n 14 15 K 0 dX0_loadEarly_14 rfl rfl rfl ?_
  refine z_if_lt 15 18 28 K dX0_loadEarly_15 rfl (by decide) (fun c15 => ?_) (fun c15 => ?_)
  · refine z_iload_n 28 29 K 0 dX0_loadEarly_28 rfl rfl rfl ?_
    refine z_if_lt 29 32 41 K dX0_loadEarly_29 rfl (by decide) (fun c29 => ?_) (fun c29 => ?_)
    · refine z_aload_n 41 42 K 1 dX0_loadEarly_41 rfl rfl rfl ?_
      refine xg_6 42 45 K dX0_loadEarly_42 rfl ?_
      refine z_aload_n 45 46 K 1 dX0_loadEarly_45 rfl rfl rfl ?_
      refine xg_3 46 49 K dX0_loadEarly_46 rfl ?_
      refine z_iload_n 49 50 K 2 dX0_loadEarly_49 rfl rfl rfl ?_
      refine xl_3 50 51 K i rfl (by omega) dX0_loadEarly_50 rfl ?_
      refine xL_6 51 52 K hle dX0_loadEarly_51 rfl ?_
      refine z_istore_n 52 53 K [(3, .int (F 6 (F 3 i).toNatClampNeg)), (2, .int (F 17 i)), (0, .ref h0), (1, .int (nI i))] dX0_loadEarly_52 rfl rfl (by decide) rfl ?_
      refine z_iload_n 53 54 K 0 dX0_loadEarly_53 rfl rfl rfl ?_
      refine z_aload_n 54 55 K 2 dX0_loadEarly_54 rfl rfl rfl ?_
      refine xg_5 55 58 K dX0_loadEarly_55 rfl ?_
      refine z_iload_n 58 59 K 3 dX0_loadEarly_58 rfl rfl rfl ?_
      refine xl_5 59 60 K i rfl (by omega) dX0_loadEarly_59 rfl ?_
      refine z_iadd 60 61 K dX0_loadEarly_60 rfl ?_
      refine z_gen 61 (fun x ex => ?_)
      refine z_istore 61 63 K [(4, .int x), (3, .int (F 6 (F 3 i).toNatClampNeg)), (2, .int (F 17 i)), (0, .ref h0), (1, .int (nI i))] dX0_loadEarly_61 rfl (by decide) rfl ?_
      refine z_aload_n 63 64 K 3 dX0_loadEarly_63 rfl rfl rfl ?_
      refine z_iload 64 66 K 0 dX0_loadEarly_64 rfl rfl ?_
      refine z_calli (ci := 0) (q := (RX0, TX0, 23)) 66 69 1 K (m_faults (zl Z) (zD Z) h0 ad cs _ x) (lw_V q234 q236 qs17 q28 q237) (by decide +kernel) ⟨by decide, by decide⟩ rfl rfl rfl rfl (Nat.le_of_ble_eq_true rfl) dX0_loadEarly_66 rfl (fun r66 G66 h66 => ?_)
      obtain ⟨h66, e9⟩ := h66
      replace e9 := e9.symm
      subst e9
      refine z_if_ne 69 72 99 K dX0_loadEarly_69 rfl (by decide) (fun c69 => ?_) (fun c69 => ?_)
      · exact z_vret K E 99 dX0_loadEarly_99 ⟨zsame_put (zsame_rf _ _) (by decide), hv, zWI_keep hW (fun _ h => Or.inl h) rfl rfl rfl rfl rfl⟩
      · have k69 : ¬ zflt F x := zB_0 h66 c69
        refine z_aload_n 72 73 K 3 dX0_loadEarly_72 rfl rfl rfl ?_
        refine xg_19 73 76 K dX0_loadEarly_73 rfl ?_
        refine z_iload_n 76 77 K 4 dX0_loadEarly_76 rfl rfl rfl ?_
        refine z_iconst 77 78 K 1 dX0_loadEarly_77 rfl (by decide) ?_
        refine xs_19 78 79 K i 1 (by decide) rfl (by omega) dX0_loadEarly_78 rfl ?_
        refine z_aload_n 79 80 K 3 dX0_loadEarly_79 rfl rfl rfl ?_
        refine xg_18 80 83 K dX0_loadEarly_80 rfl ?_
        refine z_iload_n 83 84 K 4 dX0_loadEarly_83 rfl rfl rfl ?_
        refine z_aload_n 84 85 K 3 dX0_loadEarly_84 rfl rfl rfl ?_
        refine xg_7 85 88 K dX0_loadEarly_85 rfl ?_
        refine z_iload 88 90 K 0 dX0_loadEarly_88 rfl rfl ?_
        refine xL_7 90 91 K (zbadA_in (fun z => k69 (Or.inl z))) dX0_loadEarly_90 rfl ?_
        refine xs_18 91 92 K i rfl (by omega) dX0_loadEarly_91 rfl ?_
        refine z_aload_n 92 93 K 3 dX0_loadEarly_92 rfl rfl rfl ?_
        refine z_iload_n 93 94 K 4 dX0_loadEarly_93 rfl rfl rfl ?_
        refine z_iload 94 96 K 0 dX0_loadEarly_94 rfl rfl ?_
        refine z_callv (ci := 0) (q := (RX0, TX0, 23)) 96 99 2 K (m_watch (zl Z) (zD Z) h0 ad cs _ v hv4 (by exact hvv) (nI i) x) (lw_V q238 q240 qs18 q28 q241) (by decide +kernel) ⟨by decide, by decide⟩ rfl rfl rfl rfl (Nat.le_of_ble_eq_true rfl) dX0_loadEarly_96 rfl (fun G96 h96 => ?_)
        obtain ⟨v2, hv2, h96e⟩ := h96
        exact z_vret K E 99 dX0_loadEarly_99 ⟨by rw [h96e]; repeat' (first | exact zsame_rf _ _ | refine zsame_put ?_ (by decide)), ⟨v2, hv2, by rw [h96e]; rfl⟩, zWI_load (i := i) (v := v) (x := x) hW hi hE k69 (by rw [h96e]; rfl) (by rw [h96e]; rfl) (by rw [h96e]; rfl) (by rw [h96e]; rfl) (by rw [h96e]; rfl)⟩
    · exact absurd c15 c29
  · obtain ⟨s, hs14, hsk⟩ : ∃ s, s < 14 ∧ F 17 i = nI s := by
      rcases hs with h | ⟨s, h1, h2⟩
      · exact absurd (by rw [h]; decide) c15
      · exact ⟨s, h1, h2⟩
    refine z_aload_n 18 19 K 1 dX0_loadEarly_18 rfl rfl rfl ?_
    refine xg_19 19 22 K dX0_loadEarly_19 rfl ?_
    refine z_iload_n 22 23 K 0 dX0_loadEarly_22 rfl rfl rfl ?_
    refine xl_19 23 24 K s hsk hs14 dX0_loadEarly_23 rfl ?_
    refine z_if_ne 24 27 28 K dX0_loadEarly_24 rfl (by decide) (fun c24 => ?_) (fun c24 => ?_)
    · refine z_iload_n 28 29 K 0 dX0_loadEarly_28 rfl rfl rfl ?_
      refine z_if_lt 29 32 41 K dX0_loadEarly_29 rfl (by decide) (fun c29 => ?_) (fun c29 => ?_)
      · exact absurd c29 c15
      · refine z_aload_n 32 33 K 1 dX0_loadEarly_32 rfl rfl rfl ?_
        refine xg_18 33 36 K dX0_loadEarly_33 rfl ?_
        refine z_iload_n 36 37 K 0 dX0_loadEarly_36 rfl rfl rfl ?_
        refine xl_18 37 38 K s hsk hs14 dX0_loadEarly_37 rfl ?_
        refine z_goto 38 52 K dX0_loadEarly_38 (by decide) ?_
        refine z_istore_n 52 53 K [(3, .int (F 18 s)), (2, .int (F 17 i)), (0, .ref h0), (1, .int (nI i))] dX0_loadEarly_52 rfl rfl (by decide) rfl ?_
        refine z_iload_n 53 54 K 0 dX0_loadEarly_53 rfl rfl rfl ?_
        refine z_aload_n 54 55 K 2 dX0_loadEarly_54 rfl rfl rfl ?_
        refine xg_5 55 58 K dX0_loadEarly_55 rfl ?_
        refine z_iload_n 58 59 K 3 dX0_loadEarly_58 rfl rfl rfl ?_
        refine xl_5 59 60 K i rfl (by omega) dX0_loadEarly_59 rfl ?_
        refine z_iadd 60 61 K dX0_loadEarly_60 rfl ?_
        refine z_gen 61 (fun x ex => ?_)
        refine z_istore 61 63 K [(4, .int x), (3, .int (F 18 s)), (2, .int (F 17 i)), (0, .ref h0), (1, .int (nI i))] dX0_loadEarly_61 rfl (by decide) rfl ?_
        refine z_aload_n 63 64 K 3 dX0_loadEarly_63 rfl rfl rfl ?_
        refine z_iload 64 66 K 0 dX0_loadEarly_64 rfl rfl ?_
        refine z_calli (ci := 0) (q := (RX0, TX0, 23)) 66 69 1 K (m_faults (zl Z) (zD Z) h0 ad cs _ x) (lw_V q234 q236 qs17 q28 q237) (by decide +kernel) ⟨by decide, by decide⟩ rfl rfl rfl rfl (Nat.le_of_ble_eq_true rfl) dX0_loadEarly_66 rfl (fun r66 G66 h66 => ?_)
        obtain ⟨h66, e9⟩ := h66
        replace e9 := e9.symm
        subst e9
        refine z_if_ne 69 72 99 K dX0_loadEarly_69 rfl (by decide) (fun c69 => ?_) (fun c69 => ?_)
        · exact z_vret K E 99 dX0_loadEarly_99 ⟨zsame_put (zsame_rf _ _) (by decide), hv, zWI_keep hW (fun _ h => Or.inl h) rfl rfl rfl rfl rfl⟩
        · have k69 : ¬ zflt F x := zB_0 h66 c69
          refine z_aload_n 72 73 K 3 dX0_loadEarly_72 rfl rfl rfl ?_
          refine xg_19 73 76 K dX0_loadEarly_73 rfl ?_
          refine z_iload_n 76 77 K 4 dX0_loadEarly_76 rfl rfl rfl ?_
          refine z_iconst 77 78 K 1 dX0_loadEarly_77 rfl (by decide) ?_
          refine xs_19 78 79 K i 1 (by decide) rfl (by omega) dX0_loadEarly_78 rfl ?_
          refine z_aload_n 79 80 K 3 dX0_loadEarly_79 rfl rfl rfl ?_
          refine xg_18 80 83 K dX0_loadEarly_80 rfl ?_
          refine z_iload_n 83 84 K 4 dX0_loadEarly_83 rfl rfl rfl ?_
          refine z_aload_n 84 85 K 3 dX0_loadEarly_84 rfl rfl rfl ?_
          refine xg_7 85 88 K dX0_loadEarly_85 rfl ?_
          refine z_iload 88 90 K 0 dX0_loadEarly_88 rfl rfl ?_
          refine xL_7 90 91 K (zbadA_in (fun z => k69 (Or.inl z))) dX0_loadEarly_90 rfl ?_
          refine xs_18 91 92 K i rfl (by omega) dX0_loadEarly_91 rfl ?_
          refine z_aload_n 92 93 K 3 dX0_loadEarly_92 rfl rfl rfl ?_
          refine z_iload_n 93 94 K 4 dX0_loadEarly_93 rfl rfl rfl ?_
          refine z_iload 94 96 K 0 dX0_loadEarly_94 rfl rfl ?_
          refine z_callv (ci := 0) (q := (RX0, TX0, 23)) 96 99 2 K (m_watch (zl Z) (zD Z) h0 ad cs _ v hv4 (by exact hvv) (nI i) x) (lw_V q238 q240 qs18 q28 q241) (by decide +kernel) ⟨by decide, by decide⟩ rfl rfl rfl rfl (Nat.le_of_ble_eq_true rfl) dX0_loadEarly_96 rfl (fun G96 h96 => ?_)
          obtain ⟨v2, hv2, h96e⟩ := h96
          exact z_vret K E 99 dX0_loadEarly_99 ⟨by rw [h96e]; repeat' (first | exact zsame_rf _ _ | refine zsame_put ?_ (by decide)), ⟨v2, hv2, by rw [h96e]; rfl⟩, zWI_load (i := i) (v := v) (x := x) hW hi hE k69 (by rw [h96e]; rfl) (by rw [h96e]; rfl) (by rw [h96e]; rfl) (by rw [h96e]; rfl) (by rw [h96e]; rfl)⟩
    · exact z_vret K E 27 dX0_loadEarly_27 ⟨zsame_put (zsame_rf _ _) (by decide), hv, zWI_keep hW (fun _ h => Or.inl h) rfl rfl rfl rfl rfl⟩

set_option maxHeartbeats 4000000 in
set_option maxRecDepth 100000 in
theorem m_check (l : Launch) (D : va_G) (h0 : Nat) (ad : Nat → Nat) (cs : Nat → ClassId) (F : Nat → Nat → Int32) (Ex : Nat → Prop) (i : Nat) (hi : i < 14) (hle : vp_in (F 3 i) 8) (hde : vp_in (F 2 i) 8) (hW : zWI F Ex) : MI l yX0_check cX0_check 4 .boolean 2 42 D (tyX cs) (wX h0 ad cs) [.ref h0, .int (nI i)] F (fun r F' => (r = 1 ∧ ¬ zflt F (zad F i (F 6)) ∧ F' = zput F 6 (upd (F 6) (F 2 i).toNatClampNeg (F 7 (zad F i (F 6)).toNatClampNeg))) ∨ (r = 0 ∧ zflt F (zad F i (F 6)) ∧ F' = F)) := by
  refine MI_start [(0, .ref h0), (1, .int (nI i))] (by decide) (Nat.le_of_ble_eq_true rfl) rfl ?_
  intro Z K E
  refine z_aload_n 0 1 K 0 dX0_check_0 rfl rfl rfl ?_
  refine xg_6 1 4 K dX0_check_1 rfl ?_
  refine z_aload_n 4 5 K 0 dX0_check_4 rfl rfl rfl ?_
  refine xg_3 5 8 K dX0_check_5 rfl ?_
  refine z_iload_n 8 9 K 1 dX0_check_8 rfl rfl rfl ?_
  refine xl_3 9 10 K i rfl (by omega) dX0_check_9 rfl ?_
  refine xL_6 10 11 K hle dX0_check_10 rfl ?_
  refine z_aload_n 11 12 K 0 dX0_check_11 rfl rfl rfl ?_
  refine xg_5 12 15 K dX0_check_12 rfl ?_
  refine z_iload_n 15 16 K 1 dX0_check_15 rfl rfl rfl ?_
  refine xl_5 16 17 K i rfl (by omega) dX0_check_16 rfl ?_
  refine z_iadd 17 18 K dX0_check_17 rfl ?_
  refine z_gen 18 (fun x (ex : x = zad F i (F 6)) => ?_)
  refine z_istore_n 18 19 K [(2, .int x), (0, .ref h0), (1, .int (nI i))] dX0_check_18 rfl rfl (by decide) rfl ?_
  refine z_aload_n 19 20 K 1 dX0_check_19 rfl rfl rfl ?_
  refine xg_19 20 23 K dX0_check_20 rfl ?_
  refine z_iload_n 23 24 K 2 dX0_check_23 rfl rfl rfl ?_
  refine xl_19 24 25 K i rfl (by omega) dX0_check_24 rfl ?_
  refine z_if_eq 25 28 41 K dX0_check_25 rfl (by decide) (fun c25 => ?_) (fun c25 => ?_)
  · refine z_iconst 41 42 K 0 dX0_check_41 rfl (by decide) ?_
    refine z_istore_n 42 43 K [(3, .int 0), (2, .int x), (0, .ref h0), (1, .int (nI i))] dX0_check_42 rfl rfl (by decide) rfl ?_
    refine z_iload_n 43 44 K 0 dX0_check_43 rfl rfl rfl ?_
    refine z_if_eq 44 47 66 K dX0_check_44 rfl (by decide) (fun c44 => ?_) (fun c44 => ?_)
    · refine z_aload_n 66 67 K 2 dX0_check_66 rfl rfl rfl ?_
      refine z_iload_n 67 68 K 1 dX0_check_67 rfl rfl rfl ?_
      refine z_calli (ci := 0) (q := (RX0, TX0, 23)) 68 71 1 K (m_faults (zl Z) (zD Z) h0 ad cs _ x) (lw_V q234 q236 qs17 q28 q237) (by decide +kernel) ⟨by decide, by decide⟩ rfl rfl rfl rfl (Nat.le_of_ble_eq_true rfl) dX0_check_68 rfl (fun r68 G68 h68 => ?_)
      obtain ⟨h68, e9⟩ := h68
      replace e9 := e9.symm
      subst e9
      refine z_if_eq 71 74 76 K dX0_check_71 rfl (by decide) (fun c71 => ?_) (fun c71 => ?_)
      · have k71 := zB_0 h68 c71
        refine z_aload_n 76 77 K 2 dX0_check_76 rfl rfl rfl ?_
        refine xg_6 77 80 K dX0_check_77 rfl ?_
        refine z_aload_n 80 81 K 2 dX0_check_80 rfl rfl rfl ?_
        refine xg_2 81 84 K dX0_check_81 rfl ?_
        refine z_iload_n 84 85 K 3 dX0_check_84 rfl rfl rfl ?_
        refine xl_2 85 86 K i rfl (by omega) dX0_check_85 rfl ?_
        refine z_aload_n 86 87 K 2 dX0_check_86 rfl rfl rfl ?_
        refine xg_7 87 90 K dX0_check_87 rfl ?_
        refine z_iload_n 90 91 K 1 dX0_check_90 rfl rfl rfl ?_
        refine xL_7 91 92 K (zbadA_in (fun z => k71 (Or.inl z))) dX0_check_91 rfl ?_
        refine xS_6 92 93 K hde dX0_check_92 rfl ?_
        refine z_iconst 93 94 K 1 dX0_check_93 rfl (by decide) ?_
        exact z_iret K E 94 dX0_check_94 rfl (Or.inl ⟨rfl, by rw [← ex]; exact k71, by rw [ex]⟩)
      · have k71 := zB_1 h68 c71
        refine z_iconst 74 75 K 0 dX0_check_74 rfl (by decide) ?_
        exact z_iret K E 75 dX0_check_75 rfl (Or.inr ⟨rfl, by rw [← ex]; exact k71, rfl⟩)
    · exact absurd c44 (by decide)
  · refine z_aload_n 28 29 K 1 dX0_check_28 rfl rfl rfl ?_
    refine z_iload_n 29 30 K 2 dX0_check_29 rfl rfl rfl ?_
    refine z_iload_n 30 31 K 0 dX0_check_30 rfl rfl rfl ?_
    refine z_calli (ci := 0) (q := (RX0, TX0, 23)) 31 34 2 K (m_stillWatched (zl Z) (zD Z) h0 ad cs _ (nI i) x) (lw_V q246 q248 qs20 q28 q249) (by decide +kernel) ⟨by decide, by decide⟩ rfl rfl rfl rfl (Nat.le_of_ble_eq_true rfl) dX0_check_31 rfl (fun r31 G31 h31 => ?_)
    obtain ⟨h31, e9⟩ := h31
    replace e9 := e9.symm
    subst e9
    refine z_if_eq 34 37 41 K dX0_check_34 rfl (by decide) (fun c34 => ?_) (fun c34 => ?_)
    · refine z_iconst 41 42 K 0 dX0_check_41 rfl (by decide) ?_
      refine z_istore_n 42 43 K [(3, .int 0), (2, .int x), (0, .ref h0), (1, .int (nI i))] dX0_check_42 rfl rfl (by decide) rfl ?_
      refine z_iload_n 43 44 K 0 dX0_check_43 rfl rfl rfl ?_
      refine z_if_eq 44 47 66 K dX0_check_44 rfl (by decide) (fun c44 => ?_) (fun c44 => ?_)
      · refine z_aload_n 66 67 K 2 dX0_check_66 rfl rfl rfl ?_
        refine z_iload_n 67 68 K 1 dX0_check_67 rfl rfl rfl ?_
        refine z_calli (ci := 0) (q := (RX0, TX0, 23)) 68 71 1 K (m_faults (zl Z) (zD Z) h0 ad cs _ x) (lw_V q234 q236 qs17 q28 q237) (by decide +kernel) ⟨by decide, by decide⟩ rfl rfl rfl rfl (Nat.le_of_ble_eq_true rfl) dX0_check_68 rfl (fun r68 G68 h68 => ?_)
        obtain ⟨h68, e9⟩ := h68
        replace e9 := e9.symm
        subst e9
        refine z_if_eq 71 74 76 K dX0_check_71 rfl (by decide) (fun c71 => ?_) (fun c71 => ?_)
        · have k71 := zB_0 h68 c71
          refine z_aload_n 76 77 K 2 dX0_check_76 rfl rfl rfl ?_
          refine xg_6 77 80 K dX0_check_77 rfl ?_
          refine z_aload_n 80 81 K 2 dX0_check_80 rfl rfl rfl ?_
          refine xg_2 81 84 K dX0_check_81 rfl ?_
          refine z_iload_n 84 85 K 3 dX0_check_84 rfl rfl rfl ?_
          refine xl_2 85 86 K i rfl (by omega) dX0_check_85 rfl ?_
          refine z_aload_n 86 87 K 2 dX0_check_86 rfl rfl rfl ?_
          refine xg_7 87 90 K dX0_check_87 rfl ?_
          refine z_iload_n 90 91 K 1 dX0_check_90 rfl rfl rfl ?_
          refine xL_7 91 92 K (zbadA_in (fun z => k71 (Or.inl z))) dX0_check_91 rfl ?_
          refine xS_6 92 93 K hde dX0_check_92 rfl ?_
          refine z_iconst 93 94 K 1 dX0_check_93 rfl (by decide) ?_
          exact z_iret K E 94 dX0_check_94 rfl (Or.inl ⟨rfl, by rw [← ex]; exact k71, by rw [ex]⟩)
        · have k71 := zB_1 h68 c71
          refine z_iconst 74 75 K 0 dX0_check_74 rfl (by decide) ?_
          exact z_iret K E 75 dX0_check_75 rfl (Or.inr ⟨rfl, by rw [← ex]; exact k71, rfl⟩)
      · exact absurd c44 (by decide)
    · have k34 := zB_1 h31 c34
      refine z_iconst 37 38 K 1 dX0_check_37 rfl (by decide) ?_
      refine z_goto 38 42 K dX0_check_38 (by decide) ?_
      refine z_istore_n 42 43 K [(3, .int 1), (2, .int x), (0, .ref h0), (1, .int (nI i))] dX0_check_42 rfl rfl (by decide) rfl ?_
      refine z_iload_n 43 44 K 0 dX0_check_43 rfl rfl rfl ?_
      refine z_if_eq 44 47 66 K dX0_check_44 rfl (by decide) (fun c44 => ?_) (fun c44 => ?_)
      · exact absurd c44 (by decide)
      · refine z_aload_n 47 48 K 2 dX0_check_47 rfl rfl rfl ?_
        refine xg_6 48 51 K dX0_check_48 rfl ?_
        refine z_aload_n 51 52 K 2 dX0_check_51 rfl rfl rfl ?_
        refine xg_2 52 55 K dX0_check_52 rfl ?_
        refine z_iload_n 55 56 K 3 dX0_check_55 rfl rfl rfl ?_
        refine xl_2 56 57 K i rfl (by omega) dX0_check_56 rfl ?_
        refine z_aload_n 57 58 K 2 dX0_check_57 rfl rfl rfl ?_
        refine xg_18 58 61 K dX0_check_58 rfl ?_
        refine z_iload_n 61 62 K 3 dX0_check_61 rfl rfl rfl ?_
        refine xl_18 62 63 K i rfl (by omega) dX0_check_62 rfl ?_
        refine xS_6 63 64 K hde dX0_check_63 rfl ?_
        refine z_iconst 64 65 K 1 dX0_check_64 rfl (by decide) ?_
        exact z_iret K E 65 dX0_check_65 rfl (Or.inl ⟨rfl, by rw [← ex]; exact (zWI_hit hW hi k34).1, by rw [(zWI_hit hW hi k34).2, ex]⟩)

set_option maxHeartbeats 4000000 in
set_option maxRecDepth 100000 in
theorem m_storeAt (l : Launch) (D : va_G) (h0 : Nat) (ad : Nat → Nat) (cs : Nat → ClassId) (F : Nat → Nat → Int32) (Ex : Nat → Prop) (i : Nat) (hi : i < 14) (hle : vp_in (F 3 i) 8) (hri : vp_in (F 4 i) 8) (hW : zWI F Ex) : MI l yX0_storeAt cX0_storeAt 3 .boolean 2 42 D (tyX cs) (wX h0 ad cs) [.ref h0, .int (nI i)] F (fun r F' => (r = 0 ∧ zflt F (zad F i (F 6)) ∧ F' = F) ∨ (r = 1 ∧ ¬ zflt F (zad F i (F 6)) ∧ zsame [7, 21] F F' ∧ F' 7 = upd (F 7) (zad F i (F 6)).toNatClampNeg (F 6 (F 4 i).toNatClampNeg) ∧ zWI F' Ex)) := by
  refine MI_start [(0, .ref h0), (1, .int (nI i))] (by decide) (Nat.le_of_ble_eq_true rfl) rfl ?_
  intro Z K E
  refine z_aload_n 0 1 K 0 dX0_storeAt_0 rfl rfl rfl ?_
  refine xg_6 1 4 K dX0_storeAt_1 rfl ?_
  refine z_aload_n 4 5 K 0 dX0_storeAt_4 rfl rfl rfl ?_
  refine xg_3 5 8 K dX0_storeAt_5 rfl ?_
  refine z_iload_n 8 9 K 1 dX0_storeAt_8 rfl rfl rfl ?_
  refine xl_3 9 10 K i rfl (by omega) dX0_storeAt_9 rfl ?_
  refine xL_6 10 11 K hle dX0_storeAt_10 rfl ?_
  refine z_aload_n 11 12 K 0 dX0_storeAt_11 rfl rfl rfl ?_
  refine xg_5 12 15 K dX0_storeAt_12 rfl ?_
  refine z_iload_n 15 16 K 1 dX0_storeAt_15 rfl rfl rfl ?_
  refine xl_5 16 17 K i rfl (by omega) dX0_storeAt_16 rfl ?_
  refine z_iadd 17 18 K dX0_storeAt_17 rfl ?_
  refine z_gen 18 (fun x (ex : x = zad F i (F 6)) => ?_)
  refine z_istore_n 18 19 K [(2, .int x), (0, .ref h0), (1, .int (nI i))] dX0_storeAt_18 rfl rfl (by decide) rfl ?_
  refine z_aload_n 19 20 K 1 dX0_storeAt_19 rfl rfl rfl ?_
  refine z_iload_n 20 21 K 0 dX0_storeAt_20 rfl rfl rfl ?_
  refine z_calli (ci := 0) (q := (RX0, TX0, 23)) 21 24 1 K (m_faults (zl Z) (zD Z) h0 ad cs _ x) (lw_V q234 q236 qs17 q28 q237) (by decide +kernel) ⟨by decide, by decide⟩ rfl rfl rfl rfl (Nat.le_of_ble_eq_true rfl) dX0_storeAt_21 rfl (fun r21 G21 h21 => ?_)
  obtain ⟨h21, e9⟩ := h21
  replace e9 := e9.symm
  subst e9
  refine z_if_eq 24 27 29 K dX0_storeAt_24 rfl (by decide) (fun c24 => ?_) (fun c24 => ?_)
  · have k24 := zB_0 h21 c24
    refine z_aload_n 29 30 K 1 dX0_storeAt_29 rfl rfl rfl ?_
    refine xg_7 30 33 K dX0_storeAt_30 rfl ?_
    refine z_iload_n 33 34 K 0 dX0_storeAt_33 rfl rfl rfl ?_
    refine z_aload_n 34 35 K 1 dX0_storeAt_34 rfl rfl rfl ?_
    refine xg_6 35 38 K dX0_storeAt_35 rfl ?_
    refine z_aload_n 38 39 K 1 dX0_storeAt_38 rfl rfl rfl ?_
    refine xg_4 39 42 K dX0_storeAt_39 rfl ?_
    refine z_iload_n 42 43 K 2 dX0_storeAt_42 rfl rfl rfl ?_
    refine xl_4 43 44 K i rfl (by omega) dX0_storeAt_43 rfl ?_
    refine xL_6 44 45 K hri dX0_storeAt_44 rfl ?_
    refine xS_7 45 46 K (zbadA_in (fun z => k24 (Or.inl z))) dX0_storeAt_45 rfl ?_
    refine z_aload_n 46 47 K 1 dX0_storeAt_46 rfl rfl rfl ?_
    refine z_iload_n 47 48 K 0 dX0_storeAt_47 rfl rfl rfl ?_
    refine z_callv (ci := 0) (q := (RX0, TX0, 23)) 48 51 1 K (m_stored (zl Z) (zD Z) h0 ad cs _ x) (lw_V q254 q256 qs22 q28 q257) (by decide +kernel) ⟨by decide, by decide⟩ rfl rfl rfl rfl (Nat.le_of_ble_eq_true rfl) dX0_storeAt_48 rfl (fun G48 h48 => ?_)
    refine z_iconst 51 52 K 1 dX0_storeAt_51 rfl (by decide) ?_
    exact z_iret K E 52 dX0_storeAt_52 rfl (Or.inr ⟨rfl, by rw [← ex]; exact k24, zsame_tr (zsame_put (zsame_rf _ _) (by decide)) (zsame_up h48.1 (by decide)), by rw [h48.1 7 (by decide), ← ex]; rfl, zWI_store (x := x) hW k24 (h48.1 7 (by decide)) (h48.1 8 (by decide)) (h48.1 18 (by decide)) (h48.1 22 (by decide)) h48.2⟩)
  · have k24 := zB_1 h21 c24
    refine z_iconst 27 28 K 0 dX0_storeAt_27 rfl (by decide) ?_
    exact z_iret K E 28 dX0_storeAt_28 rfl (Or.inl ⟨rfl, by rw [← ex]; exact k24, rfl⟩)

set_option maxHeartbeats 4000000 in
set_option maxRecDepth 100000 in
theorem m_execE (l : Launch) (D : va_G) (h0 : Nat) (ad : Nat → Nat) (cs : Nat → ClassId) (F : Nat → Nat → Int32) (Ex : Nat → Prop) (i : Nat) (hi : i < 14) (hs : F 17 i = -1 ∨ ∃ s, s < 14 ∧ F 17 i = nI s) (hle : vp_in (F 3 i) 8) (hv : zVi F) (hW : zWI F Ex) (hE : ¬ Ex i) : MI l yX0_execute cX0_execute 4 .int 3 66 D (tyX cs) (wX h0 ad cs) [.ref h0, .int (nI (14 + i))] F (fun r F' => r = -1 ∧ zsame [18, 19, 20, 21, 22] F F' ∧ zVi F' ∧ zWI F' (fun j => Ex j ∨ j = i)) := by
  refine MI_start [(0, .ref h0), (1, .int (nI (14 + i)))] (by decide) (Nat.le_of_ble_eq_true rfl) rfl ?_
  intro Z K E
  refine z_iload_n 0 1 K 1 dX0_execute_0 rfl rfl rfl ?_
  refine z_bipush 1 3 K 14 dX0_execute_1 rfl (by decide) ?_
  refine z_icmp_lt 3 6 16 K dX0_execute_3 rfl (by decide) (fun c3 => ?_) (fun c3 => ?_)
  · exact absurd ((nI_ltI (b := 14) (by omega) (by decide)).mp c3) (by omega)
  · refine z_aload_n 6 7 K 0 dX0_execute_6 rfl rfl rfl ?_
    refine z_iload_n 7 8 K 1 dX0_execute_7 rfl rfl rfl ?_
    refine z_bipush 8 10 K (nI 14) dX0_execute_8 rfl (by decide) ?_
    refine z_isub 10 11 K dX0_execute_10 rfl ?_
    refine z_top 11 (nI i) ((pk_sub (by omega)).trans (by rw [Nat.add_sub_cancel_left])) ?_
    refine z_callv (ci := 0) (q := (RX0, TX0, 23)) 11 14 1 K (m_loadEarly (zl Z) (zD Z) h0 ad cs _ Ex i hi hs hle hv hW hE) (lw_V q230 q232 qs16 q28 q233) (by decide +kernel) ⟨by decide, by decide⟩ rfl rfl rfl rfl (Nat.le_of_ble_eq_true rfl) dX0_execute_11 rfl (fun G11 h11 => ?_)
    refine z_iconst 14 15 K (-1) dX0_execute_14 rfl (by decide) ?_
    exact z_iret K E 15 dX0_execute_15 rfl ⟨rfl, h11⟩

set_option maxHeartbeats 4000000 in
set_option maxRecDepth 100000 in
theorem m_execI (l : Launch) (D : va_G) (h0 : Nat) (ad : Nat → Nat) (cs : Nat → ClassId) (F : Nat → Nat → Int32) (Ex : Nat → Prop) (n : Nat) (hn : n < 14) (hw : zwf F n) (hW : zWI F Ex) : MI l yX0_execute cX0_execute 4 .int 3 66 D (tyX cs) (wX h0 ad cs) [.ref h0, .int (nI n)] F (fun r F' => (r, F' 6, F' 7) = zxs F n (F 6) (F 7) ∧ zsame [6, 7, 21] F F' ∧ zWI F' Ex) := by
  refine MI_start [(0, .ref h0), (1, .int (nI n))] (by decide) (Nat.le_of_ble_eq_true rfl) rfl ?_
  intro Z K E
  refine z_iload_n 0 1 K 1 dX0_execute_0 rfl rfl rfl ?_
  refine z_bipush 1 3 K 14 dX0_execute_1 rfl (by decide) ?_
  refine z_icmp_lt 3 6 16 K dX0_execute_3 rfl (by decide) (fun c3 => ?_) (fun c3 => ?_)
  · refine z_aload_n 16 17 K 0 dX0_execute_16 rfl rfl rfl ?_
    refine xg_1 17 20 K dX0_execute_17 rfl ?_
    refine z_iload_n 20 21 K 1 dX0_execute_20 rfl rfl rfl ?_
    refine xl_1 21 22 K n rfl (by omega) dX0_execute_21 rfl ?_
    refine z_istore_n 22 23 K [(2, .int (F 1 n)), (0, .ref h0), (1, .int (nI n))] dX0_execute_22 rfl rfl (by decide) rfl ?_
    refine z_iload_n 23 24 K 0 dX0_execute_23 rfl rfl rfl ?_
    refine z_iconst 24 25 K 3 dX0_execute_24 rfl (by decide) ?_
    refine z_icmp_ne 25 28 48 K dX0_execute_25 rfl (by decide) (fun c25 => ?_) (fun c25 => ?_)
    · refine z_iload_n 48 49 K 0 dX0_execute_48 rfl rfl rfl ?_
      refine z_iconst 49 50 K 4 dX0_execute_49 rfl (by decide) ?_
      refine z_icmp_ne 50 53 73 K dX0_execute_50 rfl (by decide) (fun c50 => ?_) (fun c50 => ?_)
      · refine z_iload_n 73 74 K 0 dX0_execute_73 rfl rfl rfl ?_
        refine z_iconst 74 75 K 5 dX0_execute_74 rfl (by decide) ?_
        refine z_icmp_ne 75 78 102 K dX0_execute_75 rfl (by decide) (fun c75 => ?_) (fun c75 => ?_)
        · refine z_iload_n 102 103 K 0 dX0_execute_102 rfl rfl rfl ?_
          refine z_if_ne 103 106 126 K dX0_execute_103 rfl (by decide) (fun c103 => ?_) (fun c103 => ?_)
          · have hw1 := zwf_1 hw c25 c50 c75 c103
            refine z_iload_n 126 127 K 0 dX0_execute_126 rfl rfl rfl ?_
            refine z_iconst 127 128 K 1 dX0_execute_127 rfl (by decide) ?_
            refine z_icmp_ne 128 131 168 K dX0_execute_128 rfl (by decide) (fun c128 => ?_) (fun c128 => ?_)
            · refine z_aload_n 168 169 K 1 dX0_execute_168 rfl rfl rfl ?_
              refine xg_6 169 172 K dX0_execute_169 rfl ?_
              refine z_aload_n 172 173 K 1 dX0_execute_172 rfl rfl rfl ?_
              refine xg_2 173 176 K dX0_execute_173 rfl ?_
              refine z_iload_n 176 177 K 2 dX0_execute_176 rfl rfl rfl ?_
              refine xl_2 177 178 K n rfl (by omega) dX0_execute_177 rfl ?_
              refine z_aload_n 178 179 K 1 dX0_execute_178 rfl rfl rfl ?_
              refine xg_6 179 182 K dX0_execute_179 rfl ?_
              refine z_aload_n 182 183 K 1 dX0_execute_182 rfl rfl rfl ?_
              refine xg_3 183 186 K dX0_execute_183 rfl ?_
              refine z_iload_n 186 187 K 2 dX0_execute_186 rfl rfl rfl ?_
              refine xl_3 187 188 K n rfl (by omega) dX0_execute_187 rfl ?_
              refine xL_6 188 189 K hw1.2.2.1 dX0_execute_188 rfl ?_
              refine z_aload_n 189 190 K 1 dX0_execute_189 rfl rfl rfl ?_
              refine xg_6 190 193 K dX0_execute_190 rfl ?_
              refine z_aload_n 193 194 K 1 dX0_execute_193 rfl rfl rfl ?_
              refine xg_4 194 197 K dX0_execute_194 rfl ?_
              refine z_iload_n 197 198 K 2 dX0_execute_197 rfl rfl rfl ?_
              refine xl_4 198 199 K n rfl (by omega) dX0_execute_198 rfl ?_
              refine xL_6 199 200 K hw1.2.2.2 dX0_execute_199 rfl ?_
              refine z_isub 200 201 K dX0_execute_200 rfl ?_
              refine xS_6 201 202 K hw1.2.1 dX0_execute_201 rfl ?_
              refine z_iconst 202 203 K (-1) dX0_execute_202 rfl (by decide) ?_
              exact z_iret K E 203 dX0_execute_203 rfl ⟨(zxs_s (hw1.1.resolve_left c128)).symm, (by repeat' (first | exact zsame_rf _ _ | refine zsame_put ?_ (by decide))), zWI_keep hW (fun _ h => h) rfl rfl rfl rfl rfl⟩
            · refine z_aload_n 131 132 K 1 dX0_execute_131 rfl rfl rfl ?_
              refine xg_6 132 135 K dX0_execute_132 rfl ?_
              refine z_aload_n 135 136 K 1 dX0_execute_135 rfl rfl rfl ?_
              refine xg_2 136 139 K dX0_execute_136 rfl ?_
              refine z_iload_n 139 140 K 2 dX0_execute_139 rfl rfl rfl ?_
              refine xl_2 140 141 K n rfl (by omega) dX0_execute_140 rfl ?_
              refine z_aload_n 141 142 K 1 dX0_execute_141 rfl rfl rfl ?_
              refine xg_6 142 145 K dX0_execute_142 rfl ?_
              refine z_aload_n 145 146 K 1 dX0_execute_145 rfl rfl rfl ?_
              refine xg_3 146 149 K dX0_execute_146 rfl ?_
              refine z_iload_n 149 150 K 2 dX0_execute_149 rfl rfl rfl ?_
              refine xl_3 150 151 K n rfl (by omega) dX0_execute_150 rfl ?_
              refine xL_6 151 152 K hw1.2.2.1 dX0_execute_151 rfl ?_
              refine z_aload_n 152 153 K 1 dX0_execute_152 rfl rfl rfl ?_
              refine xg_6 153 156 K dX0_execute_153 rfl ?_
              refine z_aload_n 156 157 K 1 dX0_execute_156 rfl rfl rfl ?_
              refine xg_4 157 160 K dX0_execute_157 rfl ?_
              refine z_iload_n 160 161 K 2 dX0_execute_160 rfl rfl rfl ?_
              refine xl_4 161 162 K n rfl (by omega) dX0_execute_161 rfl ?_
              refine xL_6 162 163 K hw1.2.2.2 dX0_execute_162 rfl ?_
              refine z_iadd 163 164 K dX0_execute_163 rfl ?_
              refine xS_6 164 165 K hw1.2.1 dX0_execute_164 rfl ?_
              refine z_goto 165 202 K dX0_execute_165 (by decide) ?_
              refine z_iconst 202 203 K (-1) dX0_execute_202 rfl (by decide) ?_
              exact z_iret K E 203 dX0_execute_203 rfl ⟨(zxs_a c128).symm, (by repeat' (first | exact zsame_rf _ _ | refine zsame_put ?_ (by decide))), zWI_keep hW (fun _ h => h) rfl rfl rfl rfl rfl⟩
          · have hw0 := zwf_0 hw c103
            refine z_aload_n 106 107 K 1 dX0_execute_106 rfl rfl rfl ?_
            refine xg_6 107 110 K dX0_execute_107 rfl ?_
            refine z_aload_n 110 111 K 1 dX0_execute_110 rfl rfl rfl ?_
            refine xg_2 111 114 K dX0_execute_111 rfl ?_
            refine z_iload_n 114 115 K 2 dX0_execute_114 rfl rfl rfl ?_
            refine xl_2 115 116 K n rfl (by omega) dX0_execute_115 rfl ?_
            refine z_aload_n 116 117 K 1 dX0_execute_116 rfl rfl rfl ?_
            refine xg_5 117 120 K dX0_execute_117 rfl ?_
            refine z_iload_n 120 121 K 2 dX0_execute_120 rfl rfl rfl ?_
            refine xl_5 121 122 K n rfl (by omega) dX0_execute_121 rfl ?_
            refine xS_6 122 123 K hw0 dX0_execute_122 rfl ?_
            refine z_goto 123 202 K dX0_execute_123 (by decide) ?_
            refine z_iconst 202 203 K (-1) dX0_execute_202 rfl (by decide) ?_
            exact z_iret K E 203 dX0_execute_203 rfl ⟨(zxs_c c103).symm, (by repeat' (first | exact zsame_rf _ _ | refine zsame_put ?_ (by decide))), zWI_keep hW (fun _ h => h) rfl rfl rfl rfl rfl⟩
        · have hw5 := zwf_5 hw c75
          refine z_aload_n 78 79 K 1 dX0_execute_78 rfl rfl rfl ?_
          refine xg_6 79 82 K dX0_execute_79 rfl ?_
          refine z_aload_n 82 83 K 1 dX0_execute_82 rfl rfl rfl ?_
          refine xg_3 83 86 K dX0_execute_83 rfl ?_
          refine z_iload_n 86 87 K 2 dX0_execute_86 rfl rfl rfl ?_
          refine xl_3 87 88 K n rfl (by omega) dX0_execute_87 rfl ?_
          refine xL_6 88 89 K hw5 dX0_execute_88 rfl ?_
          refine z_if_ne 89 92 96 K dX0_execute_89 rfl (by decide) (fun c89 => ?_) (fun c89 => ?_)
          · refine z_iconst 96 97 K (nI 1) dX0_execute_96 rfl (by decide) ?_
            refine z_iconst 97 98 K (nI 4) dX0_execute_97 rfl (by decide) ?_
            refine z_iload_n 98 99 K 2 dX0_execute_98 rfl rfl rfl ?_
            refine z_imul 99 100 K dX0_execute_99 rfl ?_
            refine z_iadd 100 101 K dX0_execute_100 rfl ?_
            refine z_top 101 (nI (1 + 4 * n)) (by rw [pk_mul, nI_add]) ?_
            exact z_iret K E 101 dX0_execute_101 rfl ⟨(zxs_lv1 c75 c89).symm, zsame_rf _ _, hW⟩
          · refine z_iconst 92 93 K (-1) dX0_execute_92 rfl (by decide) ?_
            refine z_goto 93 101 K dX0_execute_93 (by decide) ?_
            exact z_iret K E 101 dX0_execute_101 rfl ⟨(zxs_lv0 c75 c89).symm, zsame_rf _ _, hW⟩
      · have hw4 := zwf_4 hw c50
        refine z_aload_n 53 54 K 1 dX0_execute_53 rfl rfl rfl ?_
        refine z_iload_n 54 55 K 2 dX0_execute_54 rfl rfl rfl ?_
        refine z_calli (ci := 0) (q := (RX0, TX0, 23)) 55 58 1 K (m_storeAt (zl Z) (zD Z) h0 ad cs _ Ex n hn hw4.1 hw4.2 hW) (lw_V q250 q252 qs21 q28 q253) (by decide +kernel) ⟨by decide, by decide⟩ rfl rfl rfl rfl (Nat.le_of_ble_eq_true rfl) dX0_execute_55 rfl (fun r55 G55 h55 => ?_)
        refine z_istore_n 58 59 K [(3, .int r55), (2, .int (F 1 n)), (0, .ref h0), (1, .int (nI n))] dX0_execute_58 rfl rfl (by decide) rfl ?_
        refine z_iload_n 59 60 K 0 dX0_execute_59 rfl rfl rfl ?_
        refine z_if_eq 60 63 67 K dX0_execute_60 rfl (by decide) (fun c60 => ?_) (fun c60 => ?_)
        · refine z_iconst 67 68 K (nI 2) dX0_execute_67 rfl (by decide) ?_
          refine z_iconst 68 69 K (nI 4) dX0_execute_68 rfl (by decide) ?_
          refine z_iload_n 69 70 K 3 dX0_execute_69 rfl rfl rfl ?_
          refine z_imul 70 71 K dX0_execute_70 rfl ?_
          refine z_iadd 71 72 K dX0_execute_71 rfl ?_
          refine z_top 72 (nI (2 + 4 * n)) (by rw [pk_mul, nI_add]) ?_
          exact z_iret K E 72 dX0_execute_72 rfl (by rcases h55 with ⟨-, hf, e9⟩ | ⟨h, -, -⟩; subst e9; exact ⟨(zxs_stf c50 hf).symm, zsame_rf _ _, hW⟩; rw [h] at c60; exact absurd c60 (by decide))
        · refine z_iconst 63 64 K (-1) dX0_execute_63 rfl (by decide) ?_
          refine z_goto 64 72 K dX0_execute_64 (by decide) ?_
          exact z_iret K E 72 dX0_execute_72 rfl (by rcases h55 with ⟨h, -, -⟩ | ⟨-, hf, h1, h2, h3⟩; exact absurd h c60; exact ⟨by rw [zxs_st c50 hf, h2, h1 6 (by decide)], zsame_up h1 (by decide), h3⟩)
    · have hw3 := zwf_3 hw c25
      refine z_aload_n 28 29 K 1 dX0_execute_28 rfl rfl rfl ?_
      refine z_iload_n 29 30 K 2 dX0_execute_29 rfl rfl rfl ?_
      refine z_calli (ci := 0) (q := (RX0, TX0, 23)) 30 33 1 K (m_check (zl Z) (zD Z) h0 ad cs _ Ex n hn hw3.2 hw3.1 hW) (lw_V q242 q244 qs19 q28 q245) (by decide +kernel) ⟨by decide, by decide⟩ rfl rfl rfl rfl (Nat.le_of_ble_eq_true rfl) dX0_execute_30 rfl (fun r30 G30 h30 => ?_)
      refine z_istore_n 33 34 K [(3, .int r30), (2, .int (F 1 n)), (0, .ref h0), (1, .int (nI n))] dX0_execute_33 rfl rfl (by decide) rfl ?_
      refine z_iload_n 34 35 K 0 dX0_execute_34 rfl rfl rfl ?_
      refine z_if_eq 35 38 42 K dX0_execute_35 rfl (by decide) (fun c35 => ?_) (fun c35 => ?_)
      · refine z_iconst 42 43 K (nI 2) dX0_execute_42 rfl (by decide) ?_
        refine z_iconst 43 44 K (nI 4) dX0_execute_43 rfl (by decide) ?_
        refine z_iload_n 44 45 K 3 dX0_execute_44 rfl rfl rfl ?_
        refine z_imul 45 46 K dX0_execute_45 rfl ?_
        refine z_iadd 46 47 K dX0_execute_46 rfl ?_
        refine z_top 47 (nI (2 + 4 * n)) (by rw [pk_mul, nI_add]) ?_
        exact z_iret K E 47 dX0_execute_47 rfl (by rcases h30 with ⟨h, -, -⟩ | ⟨-, hf, e9⟩; rw [h] at c35; exact absurd c35 (by decide); subst e9; exact ⟨(zxs_ldf c25 hf).symm, zsame_rf _ _, hW⟩)
      · refine z_iconst 38 39 K (-1) dX0_execute_38 rfl (by decide) ?_
        refine z_goto 39 47 K dX0_execute_39 (by decide) ?_
        exact z_iret K E 47 dX0_execute_47 rfl (by rcases h30 with ⟨-, hf, e9⟩ | ⟨h, -, -⟩; subst e9; exact ⟨(zxs_ld c25 hf).symm, (by repeat' (first | exact zsame_rf _ _ | refine zsame_put ?_ (by decide))), zWI_keep hW (fun _ h => h) rfl rfl rfl rfl rfl⟩; exact absurd h c35)
  · exact absurd (nI_lt (b := 14) hn (by decide)) c3
end
section
/-! the order's words: what orderAll leaves, step by step -/
def zrow (F : Nat → Nat → Int32) (B : Nat → Int32) (j : Nat) : Prop := ∀ b, b < 28 → (zbit (B j) b ↔ ((b < j ∧ zbh F b j) ∨ (b = 14 + j ∧ F 1 j = 3)))
def zrowE (F : Nat → Nat → Int32) (B : Nat → Int32) (j : Nat) : Prop := ∀ b, b < 28 → zbit (B (14 + j)) b → (b < j ∨ (14 ≤ b ∧ b - 14 < j ∧ F 1 (b - 14) = 3))
def zsrc (S : Nat → Int32) (j : Nat) : Prop := S j = -1 ∨ ∃ w, w < 14 ∧ S j = nI w
def zuse (F : Nat → Nat → Int32) (n m : Nat) : Prop := m < n ∨ (14 ≤ m ∧ m - 14 < n ∧ F 1 (m - 14) = 3)
theorem zrow_c {F : Nat → Nat → Int32} {B B' : Nat → Int32} {j : Nat} (h : zrow F B j) (e : B' j = B j) : zrow F B' j := by unfold zrow; rw [e]; exact h
theorem zrowE_c {F : Nat → Nat → Int32} {B B' : Nat → Int32} {j : Nat} (h : zrowE F B j) (e : B' (14 + j) = B (14 + j)) : zrowE F B' j := by unfold zrowE; rw [e]; exact h
theorem zsrc_c {S S' : Nat → Int32} {j : Nat} (h : zsrc S j) (e : S' j = S j) : zsrc S' j := by unfold zsrc; rw [e]; exact h
theorem zuse_s {F : Nat → Nat → Int32} {j m : Nat} (hm : m < 28) : zuse F (j + 1) m ↔ (m = j ∨ zuse F j m ∨ (m = 14 + j ∧ F 1 j = 3)) := by
  unfold zuse
  constructor
  · rintro (h | ⟨h1, h2, h3⟩)
    · rcases Nat.lt_or_ge m j with q | q
      · exact Or.inr (Or.inl (Or.inl q))
      · exact Or.inl (by omega)
    · rcases Nat.lt_or_ge (m - 14) j with q | q
      · exact Or.inr (Or.inl (Or.inr ⟨h1, q, h3⟩))
      · have e : m - 14 = j := by omega
        rw [e] at h3
        exact Or.inr (Or.inr ⟨by omega, h3⟩)
  · rintro (h | (h | ⟨h1, h2, h3⟩) | ⟨h1, h2⟩)
    · exact Or.inl (by omega)
    · exact Or.inl (by omega)
    · exact Or.inr ⟨h1, by omega, h3⟩
    · refine Or.inr ⟨by omega, by omega, ?_⟩
      rw [show m - 14 = j by omega]
      exact h2
def zOrd (F G : Nat → Nat → Int32) (n : Nat) : Prop := zsame [11, 12, 13, 14, 17] F G ∧ (∀ m, m < 28 → (¬ G 11 m = 0 ↔ zuse F n m)) ∧ (∀ j, j < n → zrow F (G 12) j) ∧ (∀ j, j < n → F 1 j = 3 → zrowE F (G 12) j) ∧ (∀ m, m < 28 → G 14 m = -1) ∧ (∀ j, j < n → F 1 j = 3 → zsrc (G 17) j)
def zOrdA (F G : Nat → Nat → Int32) (i : Nat) : Prop := zsame [11, 12, 13, 14, 17] F G ∧ ∀ m, m < i → G 11 m = 0 ∧ G 12 m = 0 ∧ G 14 m = -1
def zOrdB (F G : Nat → Nat → Int32) (j : Nat) : Prop := zOrd F G j ∧ ∀ m, j ≤ m → m < 14 → G 12 m = 0 ∧ G 12 (14 + m) = 0
def zOrdC (F G : Nat → Nat → Int32) (j i : Nat) : Prop := zsame [11, 12, 13, 14, 17] F G ∧ (∀ m, m < 28 → (¬ G 11 m = 0 ↔ (m = j ∨ zuse F j m))) ∧ (∀ a, a < j → zrow F (G 12) a) ∧ (∀ a, a < j → F 1 a = 3 → zrowE F (G 12) a) ∧ (∀ m, m < 28 → G 14 m = -1) ∧ (∀ a, a < j → F 1 a = 3 → zsrc (G 17) a) ∧ (∀ m, j < m → m < 14 → G 12 m = 0) ∧ (∀ m, j ≤ m → m < 14 → G 12 (14 + m) = 0) ∧ (∀ b, b < 28 → (zbit (G 12 j) b ↔ (b < i ∧ zbh F b j)))
theorem zbh_same {F G : Nat → Nat → Int32} {ks : List Nat} (h : zsame ks F G) (h1 : 1 ∉ ks) (h2 : 2 ∉ ks) (h3 : 3 ∉ ks) (h4 : 4 ∉ ks) (i j : Nat) : zbh G i j ↔ zbh F i j := by
  unfold zbh
  rw [h 1 h1, h 2 h2, h 3 h3, h 4 h4]
theorem zOrdA_step {F G : Nat → Nat → Int32} {i : Nat} (h : zOrdA F G i) : zOrdA F (zput (zput (zput (zput G 11 (upd (G 11) i 0)) 12 (upd (G 12) i 0)) 14 (upd (G 14) i (-1))) 13 (upd (G 13) i 0)) (i + 1) := by
  refine ⟨zsame_put (zsame_put (zsame_put (zsame_put h.1 (by decide)) (by decide)) (by decide)) (by decide), ?_⟩
  intro m hm
  show upd (G 11) i 0 m = 0 ∧ upd (G 12) i 0 m = 0 ∧ upd (G 14) i (-1) m = -1
  by_cases e : m = i
  · subst e
    exact ⟨pk_us, pk_us, pk_us⟩
  · rw [pk_un e, pk_un e, pk_un e]
    exact h.2 m (by omega)
theorem zOrdA_end {F G : Nat → Nat → Int32} (h : zOrdA F G 28) : zOrdB F G 0 := by
  refine ⟨⟨h.1, ?_, fun j hj => absurd hj (by omega), fun j hj => absurd hj (by omega), fun m hm => (h.2 m hm).2.2, fun j hj => absurd hj (by omega)⟩, fun m _ hm => ⟨(h.2 m (by omega)).2.1, (h.2 (14 + m) (by omega)).2.1⟩⟩
  intro m hm
  constructor
  · intro q; exact absurd (h.2 m hm).1 q
  · rintro (q | ⟨_, q, _⟩)
    · exact absurd q (by omega)
    · exact absurd q (by omega)
theorem zOrdB_C {F G : Nat → Nat → Int32} {j : Nat} (hj : j < 14) (h : zOrdB F G j) : zOrdC F (zput G 11 (upd (G 11) j 1)) j 0 := by
  obtain ⟨⟨h1, h2, h3, h4, h5, h6⟩, h7⟩ := h
  refine ⟨zsame_put h1 (by decide), ?_, h3, h4, h5, h6, fun m a b => (h7 m (by omega) b).1, fun m a b => (h7 m a b).2, ?_⟩
  · intro m hm
    show ¬ upd (G 11) j 1 m = 0 ↔ _
    by_cases e : m = j
    · subst e
      rw [pk_us]
      exact ⟨fun _ => Or.inl rfl, fun _ => by decide⟩
    · rw [pk_un e, h2 m hm]
      exact ⟨Or.inr, fun q => q.resolve_left e⟩
  · intro b hb
    show zbit (G 12 j) b ↔ _
    rw [(h7 j (Nat.le_refl j) hj).1]
    exact ⟨fun q => absurd q (zbit_0 (by omega)), fun q => absurd q.1 (by omega)⟩
theorem zOrdC_no {F G : Nat → Nat → Int32} {j i : Nat} (h : zOrdC F G j i) (hb : ¬ zbh F i j) : zOrdC F G j (i + 1) := by
  obtain ⟨h1, h2, h3, h4, h5, h6, h7, h8, h9⟩ := h
  refine ⟨h1, h2, h3, h4, h5, h6, h7, h8, fun b hb2 => ?_⟩
  rw [h9 b hb2]
  constructor
  · rintro ⟨a, c⟩; exact ⟨by omega, c⟩
  · rintro ⟨a, c⟩
    refine ⟨?_, c⟩
    rcases Nat.lt_or_ge b i with q | q
    · exact q
    · have e : b = i := by omega
      rw [e] at c
      exact absurd c hb
theorem zOrdC_yes {F G : Nat → Nat → Int32} {j i : Nat} (hj : j < 14) (hi : i < j) (h : zOrdC F G j i) (hb : zbh F i j) : zOrdC F (zput G 12 (upd (G 12) j (G 12 j ||| ((1 : Int32) <<< (nI i &&& 31))))) j (i + 1) := by
  obtain ⟨h1, h2, h3, h4, h5, h6, h7, h8, h9⟩ := h
  refine ⟨zsame_put h1 (by decide), h2, fun a ha => zrow_c (h3 a ha) (pk_un (by omega)), fun a ha ho => zrowE_c (h4 a ha ho) (pk_un (by omega)), h5, h6, fun m a b => ?_, fun m a b => ?_, fun b hb2 => ?_⟩
  · show upd (G 12) j _ m = 0
    rw [pk_un (by omega)]; exact h7 m a b
  · show upd (G 12) j _ (14 + m) = 0
    rw [pk_un (by omega)]; exact h8 m a b
  · show zbit (upd (G 12) j _ j) b ↔ _
    rw [pk_us, zbit_or (by omega) (by omega), h9 b hb2]
    constructor
    · rintro (⟨a, c⟩ | e)
      · exact ⟨by omega, c⟩
      · subst e; exact ⟨by omega, hb⟩
    · rintro ⟨a, c⟩
      rcases Nat.lt_or_ge b i with q | q
      · exact Or.inl ⟨q, c⟩
      · exact Or.inr (by omega)
theorem zOrdC_B {F G : Nat → Nat → Int32} {j : Nat} (h : zOrdC F G j j) (ho : ¬ F 1 j = 3) : zOrdB F G (j + 1) := by
  obtain ⟨h1, h2, h3, h4, h5, h6, h7, h8, h9⟩ := h
  refine ⟨⟨h1, ?_, lt_s h3 ?_, lt_s h4 (fun q => absurd q ho), h5, lt_s h6 (fun q => absurd q ho)⟩, fun m a b => ⟨h7 m (by omega) b, h8 m (by omega) b⟩⟩
  · intro m hm
    rw [h2 m hm, zuse_s hm]
    constructor
    · rintro (q | q)
      · exact Or.inl q
      · exact Or.inr (Or.inl q)
    · rintro (q | q | q)
      · exact Or.inl q
      · exact Or.inr q
      · exact absurd q.2 ho
  · intro b hb
    rw [h9 b hb]
    exact ⟨Or.inl, fun q => q.resolve_right (fun z => ho z.2)⟩
/-- what putForward leaves -/
def zPF (F : Nat → Nat → Int32) (j : Nat) (F' : Nat → Nat → Int32) : Prop := zsame [11, 12, 17] F F' ∧ F' 11 = upd (F 11) (14 + j) 1 ∧ (∀ m, m ≠ j → F' 17 m = F 17 m) ∧ zsrc (F' 17) j ∧ (∀ m, m ≠ j → m ≠ 14 + j → F' 12 m = F 12 m) ∧ F' 12 j = F 12 j ||| ((1 : Int32) <<< (nI (14 + j) &&& 31)) ∧ (F' 12 (14 + j) = F 12 (14 + j) ∨ (∃ w, w < j ∧ F 1 w = 3 ∧ F' 12 (14 + j) = (1 : Int32) <<< (nI (14 + w) &&& 31)) ∨ (∃ w, w < j ∧ F' 12 (14 + j) = (1 : Int32) <<< (nI w &&& 31)))
theorem zOrdC_BF {F G G' : Nat → Nat → Int32} {j : Nat} (hj : j < 14) (h : zOrdC F G j j) (ho : F 1 j = 3) (hp : zPF G j G') : zOrdB F G' (j + 1) := by
  obtain ⟨h1, h2, h3, h4, h5, h6, h7, h8, h9⟩ := h
  obtain ⟨p1, p2, p3, p4, p5, p6, p7⟩ := hp
  have e14 : G' 14 = G 14 := p1 14 (by decide)
  have e1 : G 1 = F 1 := h1 1 (by decide)
  refine ⟨⟨zsame_tr h1 (zsame_up p1 (by decide)), ?_, lt_s (fun a ha => zrow_c (h3 a ha) (p5 a (by omega) (by omega))) ?_, lt_s (fun a ha q => zrowE_c (h4 a ha q) (p5 (14 + a) (by omega) (by omega))) ?_, by rw [e14]; exact h5, lt_s (fun a ha q => zsrc_c (h6 a ha q) (p3 a (by omega))) (fun _ => p4)⟩, fun m a b => ?_⟩
  · intro m hm
    rw [p2, zuse_s hm]
    by_cases e : m = 14 + j
    · rw [e, pk_us]
      exact ⟨fun _ => Or.inr (Or.inr ⟨rfl, ho⟩), fun _ => by decide⟩
    · rw [pk_un e, h2 m hm]
      constructor
      · rintro (q | q)
        · exact Or.inl q
        · exact Or.inr (Or.inl q)
      · rintro (q | q | q)
        · exact Or.inl q
        · exact Or.inr q
        · exact absurd q.1 e
  · intro b hb
    rw [p6, zbit_or (by omega) (by omega), h9 b hb]
    constructor
    · rintro (q | q)
      · exact Or.inl q
      · exact Or.inr ⟨q, ho⟩
    · rintro (q | q)
      · exact Or.inl q
      · exact Or.inr q.1
  · intro _ b hb q
    rcases p7 with p7 | ⟨w, hw, ow, p7⟩ | ⟨w, hw, p7⟩
    · rw [p7, h8 j (Nat.le_refl j) hj] at q
      exact absurd q (zbit_0 (by omega))
    · rw [p7, zbit_one (by omega) (by omega)] at q
      refine Or.inr ⟨by omega, by omega, ?_⟩
      rw [show b - 14 = w by omega, ← e1]
      exact ow
    · rw [p7, zbit_one (by omega) (by omega)] at q
      exact Or.inl (by omega)
  · rw [p5 m (by omega) (by omega), p5 (14 + m) (by omega) (by omega)]
    exact ⟨h7 m (by omega) b, h8 m (by omega) b⟩
section PF
variable {F : Nat → Nat → Int32} {j : Nat}
def zPF0 (F : Nat → Nat → Int32) (j : Nat) : Nat → Nat → Int32 := zput (zput (zput F 11 (upd (F 11) (14 + j) 1)) 12 (upd (F 12) j (F 12 j ||| ((1 : Int32) <<< (nI (14 + j) &&& 31))))) 17 (upd (F 17) j (-1))
theorem zPF_A : zPF F j (zPF0 F j) := by
  refine ⟨zsame_put (zsame_put (zsame_put (zsame_rf _ _) (by decide)) (by decide)) (by decide), rfl, fun m hm => pk_un hm, Or.inl pk_us, fun m hm _ => pk_un hm, pk_us, Or.inl (pk_un (by omega))⟩
theorem zPF_B {w : Nat} (hj : j < 14) (hw : w < j) (ho : F 1 w = 3) : zPF F j (zput (zput (zPF0 F j) 17 (upd (zPF0 F j 17) j (nI w))) 12 (upd (zPF0 F j 12) (14 + j) ((1 : Int32) <<< (nI (14 + w) &&& 31)))) := by
  refine ⟨zsame_put (zsame_put (zPF_A.1) (by decide)) (by decide), rfl, fun m hm => ?_, Or.inr ⟨w, by omega, pk_us⟩, fun m hm h2 => ?_, ?_, Or.inr (Or.inl ⟨w, hw, ho, pk_us⟩)⟩
  · show upd (upd (F 17) j (-1)) j (nI w) m = F 17 m
    rw [pk_un hm, pk_un hm]
  · show upd (upd (F 12) j _) (14 + j) _ m = F 12 m
    rw [pk_un h2, pk_un hm]
  · show upd (upd (F 12) j _) (14 + j) _ j = _
    rw [pk_un (by omega), pk_us]
theorem zPF_C {w : Nat} (hw : w < j) : zPF F j (zput (zPF0 F j) 12 (upd (zPF0 F j 12) (14 + j) ((1 : Int32) <<< (nI w &&& 31)))) := by
  refine ⟨zsame_put (zPF_A.1) (by decide), rfl, fun m hm => pk_un hm, Or.inl pk_us, fun m hm h2 => ?_, ?_, Or.inr (Or.inr ⟨w, hw, pk_us⟩)⟩
  · show upd (upd (F 12) j _) (14 + j) _ m = F 12 m
    rw [pk_un h2, pk_un hm]
  · show upd (upd (F 12) j _) (14 + j) _ j = _
    rw [pk_un (by omega), pk_us]
end PF
end
section
/-! contracts of putForward and orderAll (printed by gen4.py) -/
set_option maxRecDepth 100000
set_option maxHeartbeats 4000000 in
set_option maxRecDepth 100000 in
theorem m_putForward (l : Launch) (D : va_G) (h0 : Nat) (ad : Nat → Nat) (cs : Nat → ClassId) (F : Nat → Nat → Int32) (j : Nat) (hj : j < 14) : MV l yX0_putForward cX0_putForward 4 1 24 D (tyX cs) (wX h0 ad cs) [.ref h0, .int (nI j)] F (fun F' => zPF F j F') := by
  refine MV_start [(0, .ref h0), (1, .int (nI j))] (by decide) (Nat.le_of_ble_eq_true rfl) rfl ?_
  intro Z K E
  refine z_bipush 0 2 K (nI 14) dX0_putForward_0 rfl (by decide) ?_
  refine z_iload_n 2 3 K 1 dX0_putForward_2 rfl rfl rfl ?_
  refine z_iadd 3 4 K dX0_putForward_3 rfl ?_
  refine z_top 4 (nI (14 + j)) (nI_add _ _) ?_
  refine z_istore_n 4 5 K [(2, .int (nI (14 + j))), (0, .ref h0), (1, .int (nI j))] dX0_putForward_4 rfl rfl (by decide) rfl ?_
  refine z_aload_n 5 6 K 1 dX0_putForward_5 rfl rfl rfl ?_
  refine xg_11 6 9 K dX0_putForward_6 rfl ?_
  refine z_iload_n 9 10 K 0 dX0_putForward_9 rfl rfl rfl ?_
  refine z_iconst 10 11 K 1 dX0_putForward_10 rfl (by decide) ?_
  refine xs_11 11 12 K (14 + j) 1 (by decide) rfl (by omega) dX0_putForward_11 rfl ?_
  refine z_aload_n 12 13 K 1 dX0_putForward_12 rfl rfl rfl ?_
  refine xg_12 13 16 K dX0_putForward_13 rfl ?_
  refine z_iload_n 16 17 K 2 dX0_putForward_16 rfl rfl rfl ?_
  refine z_aload_n 17 18 K 1 dX0_putForward_17 rfl rfl rfl ?_
  refine xg_12 18 21 K dX0_putForward_18 rfl ?_
  refine z_iload_n 21 22 K 2 dX0_putForward_21 rfl rfl rfl ?_
  refine xl_12 22 23 K j rfl (by omega) dX0_putForward_22 rfl ?_
  refine z_iconst 23 24 K 1 dX0_putForward_23 rfl (by decide) ?_
  refine z_iload_n 24 25 K 0 dX0_putForward_24 rfl rfl rfl ?_
  refine z_ishl 25 26 K dX0_putForward_25 rfl ?_
  refine z_ior 26 27 K dX0_putForward_26 rfl ?_
  refine xs_12 27 28 K j rfl (by omega) dX0_putForward_27 rfl ?_
  refine z_aload_n 28 29 K 1 dX0_putForward_28 rfl rfl rfl ?_
  refine xg_17 29 32 K dX0_putForward_29 rfl ?_
  refine z_iload_n 32 33 K 2 dX0_putForward_32 rfl rfl rfl ?_
  refine z_iconst 33 34 K (-1) dX0_putForward_33 rfl (by decide) ?_
  refine xs_17 34 35 K j rfl (by omega) dX0_putForward_34 rfl ?_
  refine z_aload_n 35 36 K 1 dX0_putForward_35 rfl rfl rfl ?_
  refine z_iload_n 36 37 K 2 dX0_putForward_36 rfl rfl rfl ?_
  refine z_aload_n 37 38 K 1 dX0_putForward_37 rfl rfl rfl ?_
  refine xg_3 38 41 K dX0_putForward_38 rfl ?_
  refine z_iload_n 41 42 K 2 dX0_putForward_41 rfl rfl rfl ?_
  refine xl_3 42 43 K j rfl (by omega) dX0_putForward_42 rfl ?_
  refine z_calli (ci := 0) (q := (RX0, TX0, 23)) 43 46 2 K (m_writerBefore (zl Z) (zD Z) h0 ad cs _ j (by omega) (F 3 j)) (lw_V q202 q204 qs9 q28 q205) (by decide +kernel) ⟨by decide, by decide⟩ rfl rfl rfl rfl (Nat.le_of_ble_eq_true rfl) dX0_putForward_43 rfl (fun r43 G43 h43 => ?_)
  obtain ⟨e9, h43⟩ := h43
  replace e9 := e9.symm
  subst e9
  refine z_istore_n 46 47 K [(3, .int r43), (2, .int (nI (14 + j))), (0, .ref h0), (1, .int (nI j))] dX0_putForward_46 rfl rfl (by decide) rfl ?_
  refine z_iload_n 47 48 K 0 dX0_putForward_47 rfl rfl rfl ?_
  refine z_if_lt 48 51 83 K dX0_putForward_48 rfl (by decide) (fun c48 => ?_) (fun c48 => ?_)
  · refine z_iload_n 83 84 K 0 dX0_putForward_83 rfl rfl rfl ?_
    refine z_if_lt 84 87 96 K dX0_putForward_84 rfl (by decide) (fun c84 => ?_) (fun c84 => ?_)
    · exact z_vret K E 96 dX0_putForward_96 zPF_A
    · exact absurd c48 c84
  · obtain ⟨w, hw, hr⟩ : ∃ w, w < j ∧ r43 = nI w := by
      rcases h43 with h | h
      · exact absurd (by rw [h]; decide) c48
      · exact h
    refine z_aload_n 51 52 K 2 dX0_putForward_51 rfl rfl rfl ?_
    refine xg_1 52 55 K dX0_putForward_52 rfl ?_
    refine z_iload_n 55 56 K 0 dX0_putForward_55 rfl rfl rfl ?_
    refine xl_1 56 57 K w hr (by omega) dX0_putForward_56 rfl ?_
    refine z_iconst 57 58 K 3 dX0_putForward_57 rfl (by decide) ?_
    refine z_icmp_ne 58 61 83 K dX0_putForward_58 rfl (by decide) (fun c58 => ?_) (fun c58 => ?_)
    · refine z_iload_n 83 84 K 0 dX0_putForward_83 rfl rfl rfl ?_
      refine z_if_lt 84 87 96 K dX0_putForward_84 rfl (by decide) (fun c84 => ?_) (fun c84 => ?_)
      · exact absurd c84 c48
      · refine z_aload_n 87 88 K 2 dX0_putForward_87 rfl rfl rfl ?_
        refine xg_12 88 91 K dX0_putForward_88 rfl ?_
        refine z_iload_n 91 92 K 1 dX0_putForward_91 rfl rfl rfl ?_
        refine z_iconst 92 93 K 1 dX0_putForward_92 rfl (by decide) ?_
        refine z_iload_n 93 94 K 0 dX0_putForward_93 rfl rfl rfl ?_
        refine z_ishl 94 95 K dX0_putForward_94 rfl ?_
        refine xs_12 95 96 K (14 + j) rfl (by omega) dX0_putForward_95 rfl ?_
        exact z_vret K E 96 dX0_putForward_96 (by subst hr; exact zPF_C hw)
    · refine z_aload_n 61 62 K 2 dX0_putForward_61 rfl rfl rfl ?_
      refine xg_17 62 65 K dX0_putForward_62 rfl ?_
      refine z_iload_n 65 66 K 3 dX0_putForward_65 rfl rfl rfl ?_
      refine z_iload_n 66 67 K 0 dX0_putForward_66 rfl rfl rfl ?_
      refine xs_17 67 68 K j rfl (by omega) dX0_putForward_67 rfl ?_
      refine z_aload_n 68 69 K 2 dX0_putForward_68 rfl rfl rfl ?_
      refine xg_12 69 72 K dX0_putForward_69 rfl ?_
      refine z_iload_n 72 73 K 1 dX0_putForward_72 rfl rfl rfl ?_
      refine z_iconst 73 74 K 1 dX0_putForward_73 rfl (by decide) ?_
      refine z_bipush 74 76 K (nI 14) dX0_putForward_74 rfl (by decide) ?_
      refine z_iload_n 76 77 K 0 dX0_putForward_76 rfl rfl rfl ?_
      refine z_iadd 77 78 K dX0_putForward_77 rfl ?_
      refine z_top 78 (nI (14 + w)) (by rw [hr]; exact nI_add _ _) ?_
      refine z_ishl 78 79 K dX0_putForward_78 rfl ?_
      refine xs_12 79 80 K (14 + j) rfl (by omega) dX0_putForward_79 rfl ?_
      refine z_goto 80 96 K dX0_putForward_80 (by decide) ?_
      exact z_vret K E 96 dX0_putForward_96 (by subst hr; exact zPF_B hj hw c58)

set_option maxHeartbeats 4000000 in
set_option maxRecDepth 100000 in
theorem m_orderAll (l : Launch) (D : va_G) (h0 : Nat) (ad : Nat → Nat) (cs : Nat → ClassId) (F : Nat → Nat → Int32) (n : Nat) (hn : F 0 0 = nI n) (h14 : n ≤ 14) : MV l yX0_orderAll cX0_orderAll 3 2 47 D (tyX cs) (wX h0 ad cs) [.ref h0] F (fun F' => zOrd F F' n) := by
  refine MV_start [(0, .ref h0)] (by decide) (Nat.le_of_ble_eq_true rfl) rfl ?_
  intro Z K E
  have loopB : ∀ (N j : Nat) (G : Nat → Nat → Int32), j ≤ n → n < j + N → zOrdB F G j → zG Z (wX h0 ad cs) 44 [(1, .int (nI j)), (0, .ref h0)] [] G := by
    intro N
    induction N with
    | zero => intro j G h1 h2; exact absurd h2 (by omega)
    | succ N ih =>
      intro j G hj hN hB
      have inner : j < n → ∀ (N2 i : Nat) (G : Nat → Nat → Int32), i ≤ j → j < i + N2 → zOrdC F G j i → zG Z (wX h0 ad cs) 61 [(2, .int (nI i)), (1, .int (nI j)), (0, .ref h0)] [] G := by
        intro hjn N2
        induction N2 with
        | zero => intro i G h1 h2; exact absurd h2 (by omega)
        | succ N2 ih2 =>
          intro i G hi hN2 hC
          refine z_iload_n 61 62 K 0 dX0_orderAll_61 rfl rfl rfl ?_
          refine z_iload_n 62 63 K 1 dX0_orderAll_62 rfl rfl rfl ?_
          refine z_icmp_geN 63 66 97 K i j rfl rfl (by omega) (by omega) dX0_orderAll_63 rfl (by decide) (fun c63 => ?_) (fun c63 => ?_)
          · have hC : zOrdC F G j j := by
              have e : i = j := by omega
              rw [e] at hC
              exact hC
            refine z_aload_n 97 98 K 2 dX0_orderAll_97 rfl rfl rfl ?_
            refine xg_1 98 101 K dX0_orderAll_98 rfl ?_
            refine z_iload_n 101 102 K 1 dX0_orderAll_101 rfl rfl rfl ?_
            refine xl_1 102 103 K j rfl (by omega) dX0_orderAll_102 rfl ?_
            refine z_iconst 103 104 K 3 dX0_orderAll_103 rfl (by decide) ?_
            refine z_icmp_ne 104 107 112 K dX0_orderAll_104 rfl (by decide) (fun c104 => ?_) (fun c104 => ?_)
            · have k104 : ¬ F 1 j = 3 := by rw [← hC.1 1 (by decide)]; exact c104
              refine z_iinc 112 115 K [(1, .int (nI (j + 1))), (2, .int (nI i)), (0, .ref h0)] 1 dX0_orderAll_112 rfl rfl (nI_1 _) (by decide) rfl ?_
              refine z_goto 115 44 K dX0_orderAll_115 (by decide) ?_
              exact z_lv [0, 2] rfl (ih (j + 1) _ (by omega) (by omega) (zOrdC_B hC k104))
            · have k104 : F 1 j = 3 := by rw [← hC.1 1 (by decide)]; exact c104
              refine z_aload_n 107 108 K 2 dX0_orderAll_107 rfl rfl rfl ?_
              refine z_iload_n 108 109 K 1 dX0_orderAll_108 rfl rfl rfl ?_
              refine z_callv (ci := 0) (q := (RX0, TX0, 23)) 109 112 1 K (m_putForward (zl Z) (zD Z) h0 ad cs _ j (by omega)) (lw_V q198 q200 qs8 q28 q201) (by decide +kernel) ⟨by decide, by decide⟩ rfl rfl rfl rfl (Nat.le_of_ble_eq_true rfl) dX0_orderAll_109 rfl (fun G109 h109 => ?_)
              refine z_iinc 112 115 K [(1, .int (nI (j + 1))), (2, .int (nI i)), (0, .ref h0)] 1 dX0_orderAll_112 rfl rfl (nI_1 _) (by decide) rfl ?_
              refine z_goto 115 44 K dX0_orderAll_115 (by decide) ?_
              exact z_lv [0, 2] rfl (ih (j + 1) _ (by omega) (by omega) (zOrdC_BF (by omega) hC k104 h109))
          · refine z_aload_n 66 67 K 2 dX0_orderAll_66 rfl rfl rfl ?_
            refine z_iload_n 67 68 K 0 dX0_orderAll_67 rfl rfl rfl ?_
            refine z_iload_n 68 69 K 1 dX0_orderAll_68 rfl rfl rfl ?_
            refine z_calli (ci := 0) (q := (RX0, TX0, 23)) 69 72 2 K (m_behind (zl Z) (zD Z) h0 ad cs _ i j (by omega) (by omega)) (lw_V q186 q188 qs5 q28 q189) (by decide +kernel) ⟨by decide, by decide⟩ rfl rfl rfl rfl (Nat.le_of_ble_eq_true rfl) dX0_orderAll_69 rfl (fun r69 G69 h69 => ?_)
            obtain ⟨h69, e9⟩ := h69
            replace e9 := e9.symm
            subst e9
            refine z_if_eq 72 75 91 K dX0_orderAll_72 rfl (by decide) (fun c72 => ?_) (fun c72 => ?_)
            · have k72 := zB_0 h69 c72
              rw [zbh_same hC.1 (by decide) (by decide) (by decide) (by decide)] at k72
              refine z_iinc 91 94 K [(2, .int (nI (i + 1))), (1, .int (nI j)), (0, .ref h0)] 0 dX0_orderAll_91 rfl rfl (nI_1 _) (by decide) rfl ?_
              refine z_goto 94 61 K dX0_orderAll_94 (by decide) ?_
              exact z_lv [0, 1, 2] rfl (ih2 (i + 1) _ (by omega) (by omega) (zOrdC_no hC k72))
            · have k72 := zB_1 h69 c72
              rw [zbh_same hC.1 (by decide) (by decide) (by decide) (by decide)] at k72
              refine z_aload_n 75 76 K 2 dX0_orderAll_75 rfl rfl rfl ?_
              refine xg_12 76 79 K dX0_orderAll_76 rfl ?_
              refine z_iload_n 79 80 K 1 dX0_orderAll_79 rfl rfl rfl ?_
              refine z_aload_n 80 81 K 2 dX0_orderAll_80 rfl rfl rfl ?_
              refine xg_12 81 84 K dX0_orderAll_81 rfl ?_
              refine z_iload_n 84 85 K 1 dX0_orderAll_84 rfl rfl rfl ?_
              refine xl_12 85 86 K j rfl (by omega) dX0_orderAll_85 rfl ?_
              refine z_iconst 86 87 K 1 dX0_orderAll_86 rfl (by decide) ?_
              refine z_iload_n 87 88 K 0 dX0_orderAll_87 rfl rfl rfl ?_
              refine z_ishl 88 89 K dX0_orderAll_88 rfl ?_
              refine z_ior 89 90 K dX0_orderAll_89 rfl ?_
              refine xs_12 90 91 K j rfl (by omega) dX0_orderAll_90 rfl ?_
              refine z_iinc 91 94 K [(2, .int (nI (i + 1))), (1, .int (nI j)), (0, .ref h0)] 0 dX0_orderAll_91 rfl rfl (nI_1 _) (by decide) rfl ?_
              refine z_goto 94 61 K dX0_orderAll_94 (by decide) ?_
              exact z_lv [0, 1, 2] rfl (ih2 (i + 1) _ (by omega) (by omega) (zOrdC_yes (by omega) (by omega) hC k72))
      have e0 : G 0 0 = nI n := (congrFun (hB.1.1 0 (by decide)) 0).trans hn
      refine z_iload_n 44 45 K 0 dX0_orderAll_44 rfl rfl rfl ?_
      refine z_aload_n 45 46 K 1 dX0_orderAll_45 rfl rfl rfl ?_
      refine xg_0 46 49 K dX0_orderAll_46 rfl ?_
      refine z_icmp_geN 49 52 118 K j n rfl e0 (by omega) (by omega) dX0_orderAll_49 rfl (by decide) (fun c49 => ?_) (fun c49 => ?_)
      · exact z_vret K E 118 dX0_orderAll_118 (by have e : j = n := (by omega); rw [← e]; exact hB.1)
      · refine z_aload_n 52 53 K 1 dX0_orderAll_52 rfl rfl rfl ?_
        refine xg_11 53 56 K dX0_orderAll_53 rfl ?_
        refine z_iload_n 56 57 K 0 dX0_orderAll_56 rfl rfl rfl ?_
        refine z_iconst 57 58 K 1 dX0_orderAll_57 rfl (by decide) ?_
        refine xs_11 58 59 K j 1 (by decide) rfl (by omega) dX0_orderAll_58 rfl ?_
        refine z_iconst 59 60 K (nI 0) dX0_orderAll_59 rfl (by decide) ?_
        refine z_istore_n 60 61 K [(2, .int (nI 0)), (1, .int (nI j)), (0, .ref h0)] dX0_orderAll_60 rfl rfl (by decide) rfl ?_
        exact z_lv [0, 1, 2] rfl (inner c49 (j + 1) 0 _ (by omega) (by omega) (zOrdB_C (by omega) hB))
  have loopA : ∀ (N i : Nat) (G : Nat → Nat → Int32), i ≤ 28 → 28 < i + N → zOrdA F G i → zG Z (wX h0 ad cs) 2 [(1, .int (nI i)), (0, .ref h0)] [] G := by
    intro N
    induction N with
    | zero => intro i G h1 h2; exact absurd h2 (by omega)
    | succ N ih =>
      intro i G hi hN hA
      refine z_iload_n 2 3 K 0 dX0_orderAll_2 rfl rfl rfl ?_
      refine z_bipush 3 5 K 28 dX0_orderAll_3 rfl (by decide) ?_
      refine z_icmp_geN 5 8 42 K i 28 rfl rfl (by omega) (by omega) dX0_orderAll_5 rfl (by decide) (fun c5 => ?_) (fun c5 => ?_)
      · refine z_iconst 42 43 K (nI 0) dX0_orderAll_42 rfl (by decide) ?_
        refine z_istore_n 43 44 K [(1, .int (nI 0)), (0, .ref h0)] dX0_orderAll_43 rfl rfl (by decide) rfl ?_
        obtain rfl : i = 28 := by omega
        exact z_lv [0, 1] rfl (loopB (n + 1) 0 _ (by omega) (by omega) (zOrdA_end hA))
      · refine z_aload_n 8 9 K 1 dX0_orderAll_8 rfl rfl rfl ?_
        refine xg_11 9 12 K dX0_orderAll_9 rfl ?_
        refine z_iload_n 12 13 K 0 dX0_orderAll_12 rfl rfl rfl ?_
        refine z_iconst 13 14 K 0 dX0_orderAll_13 rfl (by decide) ?_
        refine xs_11 14 15 K i 0 (by decide) rfl (by omega) dX0_orderAll_14 rfl ?_
        refine z_aload_n 15 16 K 1 dX0_orderAll_15 rfl rfl rfl ?_
        refine xg_12 16 19 K dX0_orderAll_16 rfl ?_
        refine z_iload_n 19 20 K 0 dX0_orderAll_19 rfl rfl rfl ?_
        refine z_iconst 20 21 K 0 dX0_orderAll_20 rfl (by decide) ?_
        refine xs_12 21 22 K i rfl (by omega) dX0_orderAll_21 rfl ?_
        refine z_aload_n 22 23 K 1 dX0_orderAll_22 rfl rfl rfl ?_
        refine xg_14 23 26 K dX0_orderAll_23 rfl ?_
        refine z_iload_n 26 27 K 0 dX0_orderAll_26 rfl rfl rfl ?_
        refine z_iconst 27 28 K (-1) dX0_orderAll_27 rfl (by decide) ?_
        refine xs_14 28 29 K i rfl (by omega) dX0_orderAll_28 rfl ?_
        refine z_aload_n 29 30 K 1 dX0_orderAll_29 rfl rfl rfl ?_
        refine xg_13 30 33 K dX0_orderAll_30 rfl ?_
        refine z_iload_n 33 34 K 0 dX0_orderAll_33 rfl rfl rfl ?_
        refine z_iconst 34 35 K 0 dX0_orderAll_34 rfl (by decide) ?_
        refine xs_13 35 36 K i rfl (by omega) dX0_orderAll_35 rfl ?_
        refine z_iinc 36 39 K [(1, .int (nI (i + 1))), (0, .ref h0)] 0 dX0_orderAll_36 rfl rfl (nI_1 _) (by decide) rfl ?_
        refine z_goto 39 2 K dX0_orderAll_39 (by decide) ?_
        exact z_lv [0, 1] rfl (ih (i + 1) _ (by omega) (by omega) (zOrdA_step hA))
  refine z_iconst 0 1 K (nI 0) dX0_orderAll_0 rfl (by decide) ?_
  refine z_istore_n 1 2 K [(1, .int (nI 0)), (0, .ref h0)] dX0_orderAll_1 rfl rfl (by decide) rfl ?_
  exact z_lv [0, 1] rfl (loopA 29 0 _ (by omega) (by omega) ⟨zsame_rf _ _, fun m hm => absurd hm (by omega)⟩)
end
section
/-! the plain law of the list schedule: what is issued is a topological order, and after 100 cycles all is issued -/
def zDag (G : Nat → Nat → Int32) (n : Nat) : Prop := (∀ m, m < 28 → (¬ G 11 m = 0 ↔ zuse G n m)) ∧ (∀ j, j < n → zrow G (G 12) j) ∧ (∀ j, j < n → G 1 j = 3 → zrowE G (G 12) j)
theorem zuse_same {F G : Nat → Nat → Int32} (e : G 1 = F 1) (n m : Nat) : zuse G n m ↔ zuse F n m := by unfold zuse; rw [e]
theorem zrow_same {F G : Nat → Nat → Int32} {B : Nat → Int32} {j : Nat} (e1 : G 1 = F 1) (e2 : G 2 = F 2) (e3 : G 3 = F 3) (e4 : G 4 = F 4) (h : zrow F B j) : zrow G B j := by
  unfold zrow zbh at *
  rw [e1, e2, e3, e4]; exact h
theorem zrowE_same {F G : Nat → Nat → Int32} {B : Nat → Int32} {j : Nat} (e1 : G 1 = F 1) (h : zrowE F B j) : zrowE G B j := by
  unfold zrowE at *
  rw [e1]; exact h
theorem zDag_same {F G : Nat → Nat → Int32} {n : Nat} {ks : List Nat} (h : zsame ks F G) (h1 : 1 ∉ ks) (h2 : 2 ∉ ks) (h3 : 3 ∉ ks) (h4 : 4 ∉ ks) (h11 : 11 ∉ ks) (h12 : 12 ∉ ks) (d : zDag F n) : zDag G n := by
  obtain ⟨a, b, c⟩ := d
  refine ⟨fun m hm => ?_, fun j hj => ?_, fun j hj ho => ?_⟩
  · rw [h 11 h11, zuse_same (h 1 h1)]; exact a m hm
  · rw [h 12 h12]; exact zrow_same (h 1 h1) (h 2 h2) (h 3 h3) (h 4 h4) (b j hj)
  · rw [h 12 h12]; rw [h 1 h1] at ho; exact zrowE_same (h 1 h1) (c j hj ho)
theorem zDag_of {F G : Nat → Nat → Int32} {n : Nat} (h : zOrd F G n) : zDag G n := by
  obtain ⟨h1, h2, h3, h4, -, -⟩ := h
  have e1 := h1 1 (by decide)
  refine ⟨fun m hm => ?_, fun j hj => zrow_same e1 (h1 2 (by decide)) (h1 3 (by decide)) (h1 4 (by decide)) (h3 j hj), fun j hj ho => ?_⟩
  · rw [zuse_same e1]; exact h2 m hm
  · rw [e1] at ho; exact zrowE_same e1 (h4 j hj ho)
def zrank (b : Nat) : Nat := if b < 14 then 2 * b + 1 else 2 * (b - 14)
theorem zrank_lo {b : Nat} (h : b < 14) : zrank b = 2 * b + 1 := if_pos h
theorem zrank_hi {b : Nat} (h : 14 ≤ b) : zrank b = 2 * (b - 14) := if_neg (by omega)
theorem zDag_pred {G : Nat → Nat → Int32} {n b m : Nat} (d : zDag G n) (h14 : n ≤ 14) (hb : b < 28) (hu : ¬ G 11 b = 0) (hm : m < 28) (hz : zbit (G 12 b) m) : ¬ G 11 m = 0 ∧ zrank m < zrank b := by
  obtain ⟨d1, d2, d3⟩ := d
  rw [d1 b hb] at hu
  rw [d1 m hm]
  rcases Nat.lt_or_ge b 14 with q | q
  · have hbn : b < n := by
      rcases hu with h | ⟨h, -, -⟩
      · exact h
      · omega
    rw [zrank_lo q]
    rcases (d2 b hbn m hm).mp hz with ⟨h, -⟩ | ⟨h, ho⟩
    · rw [zrank_lo (by omega)]
      exact ⟨Or.inl (by omega), by omega⟩
    · rw [zrank_hi (by omega)]
      refine ⟨Or.inr ⟨by omega, by omega, ?_⟩, by omega⟩
      rw [show m - 14 = b by omega]; exact ho
  · obtain ⟨j, rfl⟩ : ∃ j, b = 14 + j := ⟨b - 14, by omega⟩
    have hjn : j < n ∧ G 1 j = 3 := by
      rcases hu with h | ⟨-, h, ho⟩
      · exact absurd h (by omega)
      · rw [show 14 + j - 14 = j by omega] at h ho
        exact ⟨h, ho⟩
    rw [zrank_hi (b := 14 + j) (by omega)]
    rcases d3 j hjn.1 hjn.2 m hm hz with h | ⟨h1, h2, h3⟩
    · rw [zrank_lo (by omega)]
      exact ⟨Or.inl (by omega), by omega⟩
    · rw [zrank_hi h1]
      exact ⟨Or.inr ⟨h1, by omega, h3⟩, by omega⟩
theorem zmin {G : Nat → Nat → Int32} {n : Nat} (d : zDag G n) (h14 : n ≤ 14) : ∀ (r b : Nat), b < 28 → ¬ G 11 b = 0 → ¬ 0 ≤ G 14 b → zrank b ≤ r → ∃ a, a < 28 ∧ ¬ G 11 a = 0 ∧ ¬ 0 ≤ G 14 a ∧ ∀ m, m < 28 → zbit (G 12 a) m → 0 ≤ G 14 m := by
  intro r
  induction r with
  | zero =>
    intro b hb hu hn hr
    refine ⟨b, hb, hu, hn, fun m hm hz => ?_⟩
    have := (zDag_pred d h14 hb hu hm hz).2
    omega
  | succ r ih =>
    intro b hb hu hn hr
    by_cases h : ∀ m, m < 28 → zbit (G 12 b) m → 0 ≤ G 14 m
    · exact ⟨b, hb, hu, hn, h⟩
    · obtain ⟨m, hm⟩ := Classical.not_forall.mp h
      obtain ⟨hm, hz⟩ := Classical.not_imp.mp hm
      obtain ⟨hz, hi⟩ := Classical.not_imp.mp hz
      have p := zDag_pred d h14 hb hu hm hz
      exact ih m hm p.1 hi (by omega)
/-- the pigeons -/
theorem zpig : ∀ (N L : Nat) (f : Nat → Nat), (∀ k, k < L → f k < N) → (∀ k k2, k < L → k2 < L → f k = f k2 → k = k2) → L ≤ N := by
  intro N
  induction N with
  | zero =>
    intro L f h1 _
    rcases Nat.eq_zero_or_pos L with h | h
    · omega
    · exact absurd (h1 0 h) (by omega)
  | succ N ih =>
    intro L f h1 h2
    by_cases h : ∃ k, k < L ∧ f k = N
    · obtain ⟨k0, hk0, e0⟩ := h
      have := ih (L - 1) (fun k => if k = k0 then f (L - 1) else f k) (fun k hk => ?_) (fun k k2 hk hk2 e => ?_)
      · omega
      · by_cases e : k = k0
        · rw [if_pos e]
          have a := h1 (L - 1) (by omega)
          have b : f (L - 1) ≠ N := fun q => by
            have := h2 (L - 1) k0 (by omega) hk0 (q.trans e0.symm)
            omega
          omega
        · rw [if_neg e]
          have a := h1 k (by omega)
          have b : f k ≠ N := fun q => e (h2 k k0 (by omega) hk0 (q.trans e0.symm))
          omega
      · have e : (if k = k0 then f (L - 1) else f k) = (if k2 = k0 then f (L - 1) else f k2) := e
        by_cases e1 : k = k0
        · by_cases e2 : k2 = k0
          · rw [e1, e2]
          · rw [if_pos e1, if_neg e2] at e
            have := h2 (L - 1) k2 (by omega) (by omega) e
            omega
        · by_cases e2 : k2 = k0
          · rw [if_neg e1, if_pos e2] at e
            have := h2 k (L - 1) (by omega) (by omega) e
            omega
          · rw [if_neg e1, if_neg e2] at e
            exact h2 k k2 (by omega) (by omega) e
    · have := ih L f (fun k hk => ?_) h2
      · omega
      · have a := h1 k hk
        have b : f k ≠ N := fun q => h ⟨k, hk, q⟩
        omega
/-- L operations are issued, at cycles up to c, each behind those that it waits for -/
def zSI (G : Nat → Nat → Int32) (c L : Nat) : Prop := G 15 0 = nI L ∧ (∀ k, k < L → ∃ b, b < 28 ∧ G 16 k = nI b ∧ ¬ G 11 b = 0 ∧ 0 ≤ G 14 b) ∧ (∀ b, b < 28 → 0 ≤ G 14 b → ∃ k, k < L ∧ G 16 k = nI b) ∧ (∀ b, b < 28 → G 14 b = -1 ∨ ∃ t, t ≤ c ∧ G 14 b = nI t) ∧ (∀ k k2, k < L → k2 < L → G 16 k = G 16 k2 → k = k2) ∧ (∀ k b, k < L → b < 28 → G 16 k = nI b → ∀ m, m < 28 → zbit (G 12 b) m → ∃ k2, k2 < k ∧ G 16 k2 = nI m)
/-- the work goes on: at most two cycles without an issue -/
def zPr (G : Nat → Nat → Int32) (c L : Nat) : Prop := (∀ b, b < 28 → ¬ G 11 b = 0 → 0 ≤ G 14 b) ∨ ∃ e, c ≤ e + 2 ∧ e ≤ 3 * L ∧ ∀ b, b < 28 → 0 ≤ G 14 b → ∃ t, t < e ∧ G 14 b = nI t
theorem zSI_up {G : Nat → Nat → Int32} {c L : Nat} (h : zSI G c L) : zSI G (c + 1) L := by
  obtain ⟨h1, h2, h3, h4, h5, h6⟩ := h
  exact ⟨h1, h2, h3, fun b hb => (h4 b hb).imp id (fun ⟨t, a, e⟩ => ⟨t, by omega, e⟩), h5, h6⟩
theorem zSI_le {G : Nat → Nat → Int32} {c L : Nat} (h : zSI G c L) : L ≤ 28 := by
  obtain ⟨h1, h2, h3, h4, h5, h6⟩ := h
  refine zpig 28 L (fun k => (G 16 k).toNatClampNeg) (fun k hk => ?_) (fun k k2 hk hk2 e => ?_)
  · obtain ⟨b, hb, e, -⟩ := h2 k hk
    show (G 16 k).toNatClampNeg < 28
    rw [e, nI_clamp (by omega)]; exact hb
  · obtain ⟨b, hb, e1, -⟩ := h2 k hk
    obtain ⟨b2, hb2, e2, -⟩ := h2 k2 hk2
    have e : (G 16 k).toNatClampNeg = (G 16 k2).toNatClampNeg := e
    rw [e1, e2, nI_clamp (by omega), nI_clamp (by omega)] at e
    exact h5 k k2 hk hk2 (by rw [e1, e2, e])
theorem zSI_room {G : Nat → Nat → Int32} {c L : Nat} {cy : Int32} (h : zSI G c L) (hm : ∃ m, m < 28 ∧ zmay G m cy) : L < 28 := by
  obtain ⟨h1, h2, h3, h4, h5, h6⟩ := h
  obtain ⟨m, hm, -, hneg, -⟩ := hm
  have key := zpig 28 (L + 1) (fun k => if k < L then (G 16 k).toNatClampNeg else m) (fun k hk => ?_) (fun k k2 hk hk2 e => ?_)
  · omega
  · show (if k < L then (G 16 k).toNatClampNeg else m) < 28
    by_cases q : k < L
    · rw [if_pos q]
      obtain ⟨b, hb, e, -⟩ := h2 k q
      rw [e, nI_clamp (by omega)]; exact hb
    · rw [if_neg q]; exact hm
  · have e : (if k < L then (G 16 k).toNatClampNeg else m) = (if k2 < L then (G 16 k2).toNatClampNeg else m) := e
    have no : ∀ k, k < L → (G 16 k).toNatClampNeg = m → False := by
      intro k q e
      obtain ⟨b, hb, e1, -, hp⟩ := h2 k q
      rw [e1, nI_clamp (by omega)] at e
      rw [e] at hp
      exact zlt_not hp hneg
    by_cases q : k < L
    · by_cases q2 : k2 < L
      · rw [if_pos q, if_pos q2] at e
        obtain ⟨b, hb, e1, -⟩ := h2 k q
        obtain ⟨b2, hb2, e2, -⟩ := h2 k2 q2
        rw [e1, e2, nI_clamp (by omega), nI_clamp (by omega)] at e
        exact h5 k k2 q q2 (by rw [e1, e2, e])
      · rw [if_pos q, if_neg q2] at e
        exact absurd e (fun z => no k q z)
    · by_cases q2 : k2 < L
      · rw [if_neg q, if_pos q2] at e
        exact absurd e.symm (fun z => no k2 q2 z)
      · omega
theorem zlat_nI (m : Nat) : ∃ a, a ≤ 3 ∧ zlat m = nI a := by
  unfold zlat
  by_cases h : m < 14
  · rw [if_pos h]; exact ⟨1, by omega, rfl⟩
  · rw [if_neg h]; exact ⟨3, by omega, rfl⟩
/-- one more is issued -/
def zput3 (G : Nat → Nat → Int32) (c L k : Nat) : Nat → Nat → Int32 := zput (zput (zput G 14 (upd (G 14) k (nI c))) 16 (upd (G 16) L (nI k))) 15 (fun _ => nI (L + 1))
theorem zSI_issue {G : Nat → Nat → Int32} {c L k : Nat} (hc : c < 2 ^ 31) (h : zSI G c L) (hk : k < 28) (hm : zmay G k (nI c)) : zSI (zput3 G c L k) c (L + 1) := by
  obtain ⟨h1, h2, h3, h4, h5, h6⟩ := h
  obtain ⟨m1, m2, m3⟩ := hm
  have e14 : zput3 G c L k 14 = upd (G 14) k (nI c) := rfl
  have e16 : zput3 G c L k 16 = upd (G 16) L (nI k) := rfl
  have e11 : zput3 G c L k 11 = G 11 := rfl
  have e12 : zput3 G c L k 12 = G 12 := rfl
  have new : ∀ a, a < L → G 16 a ≠ nI k := by
    intro a ha e
    obtain ⟨b, hb, e1, -, hp⟩ := h2 a ha
    have : b = k := (nI_eq (by omega) (by omega)).mp (e1.symm.trans e)
    rw [this] at hp
    exact zlt_not hp m2
  refine ⟨rfl, ?_, ?_, ?_, ?_, ?_⟩
  · intro a ha
    rw [e16, e11, e14]
    rcases Nat.lt_or_ge a L with q | q
    · obtain ⟨b, hb, e1, hu, hp⟩ := h2 a q
      refine ⟨b, hb, by rw [pk_un (by omega)]; exact e1, hu, ?_⟩
      by_cases e : b = k
      · rw [e, pk_us]; exact nI_pos' hc
      · rw [pk_un e]; exact hp
    · refine ⟨k, hk, by rw [show a = L by omega, pk_us], m1, ?_⟩
      rw [pk_us]; exact nI_pos' hc
  · intro b hb hp
    rw [e14] at hp
    rw [e16]
    by_cases e : b = k
    · exact ⟨L, by omega, by rw [e, pk_us]⟩
    · rw [pk_un e] at hp
      obtain ⟨a, ha, e1⟩ := h3 b hb hp
      exact ⟨a, by omega, by rw [pk_un (by omega)]; exact e1⟩
  · intro b hb
    rw [e14]
    by_cases e : b = k
    · exact Or.inr ⟨c, Nat.le_refl c, by rw [e, pk_us]⟩
    · rw [pk_un e]; exact h4 b hb
  · intro a a2 ha ha2 e
    rw [e16] at e
    rcases Nat.lt_or_ge a L with q | q
    · rcases Nat.lt_or_ge a2 L with q2 | q2
      · rw [pk_un (by omega), pk_un (by omega)] at e
        exact h5 a a2 q q2 e
      · rw [pk_un (by omega), show a2 = L by omega, pk_us] at e
        exact absurd e (new a q)
    · rcases Nat.lt_or_ge a2 L with q2 | q2
      · rw [show a = L by omega, pk_us, pk_un (by omega)] at e
        exact absurd e.symm (new a2 q2)
      · omega
  · intro a b ha hb e m hm hz
    rw [e16] at e
    rw [e12] at hz
    rw [e16]
    rcases Nat.lt_or_ge a L with q | q
    · rw [pk_un (by omega)] at e
      obtain ⟨a2, ha2, e2⟩ := h6 a b q hb e m hm hz
      exact ⟨a2, ha2, by rw [pk_un (by omega)]; exact e2⟩
    · rw [show a = L by omega, pk_us] at e
      have : b = k := (nI_eq (by omega) (by omega)).mp e.symm
      rw [this] at hz
      obtain ⟨a2, ha2, e2⟩ := h3 m hm (m3 m hm hz).1
      exact ⟨a2, by omega, by rw [pk_un (by omega)]; exact e2⟩
theorem zPr_issue {G : Nat → Nat → Int32} {c d L k : Nat} (h : zSI G c L) (hk : k < 28) (hm : zmay G k (nI c)) (hp : zPr G d L) (hd : c + 1 ≤ d + 1) (hd2 : d ≤ c + 1) : zPr (zput3 G c L k) (c + 1) (L + 1) := by
  obtain ⟨h1, h2, h3, h4, h5, h6⟩ := h
  refine Or.inr ⟨c + 1, by omega, ?_, ?_⟩
  · rcases hp with hp | ⟨e, a, b, -⟩
    · exact absurd (hp k hk hm.1) (fun z => zlt_not z hm.2.1)
    · omega
  · intro b hb hq
    have e14 : zput3 G c L k 14 = upd (G 14) k (nI c) := rfl
    rw [e14] at hq ⊢
    by_cases e : b = k
    · exact ⟨c, by omega, by rw [e, pk_us]⟩
    · rw [pk_un e] at hq ⊢
      rcases h4 b hb with q | ⟨t, ht, q⟩
      · rw [q] at hq
        exact absurd hq (by decide)
      · exact ⟨t, by omega, q⟩
theorem zPr_idle {G : Nat → Nat → Int32} {n c L : Nat} (d : zDag G n) (h14 : n ≤ 14) (hc : c < 1000) (h : zSI G c L) (hp : zPr G c L) (hn : ∀ m, m < 28 → ¬ zmay G m (nI c)) : zPr G (c + 1) L := by
  rcases hp with hp | ⟨e, a, b, hp⟩
  · exact Or.inl hp
  · by_cases q : c + 1 ≤ e + 2
    · exact Or.inr ⟨e, q, b, hp⟩
    · refine Or.inl (fun x hx hu => ?_)
      by_cases hi : 0 ≤ G 14 x
      · exact hi
      · obtain ⟨y, hy, yu, yn, yp⟩ := zmin d h14 (zrank x) x hx hu hi (Nat.le_refl _)
        refine absurd ⟨yu, zle_of yn, fun m hm hz => ?_⟩ (hn y hy)
        have hm0 := yp m hm hz
        refine ⟨hm0, ?_⟩
        obtain ⟨t, ht, et⟩ := hp m hm hm0
        obtain ⟨a2, ha2, el⟩ := zlat_nI m
        rw [et, el, nI_add]
        exact nI_le (by omega) (by omega)
/-- a schedule that is right: a topological order of the operations in use -/
def zSch (F : Nat → Nat → Int32) (n : Nat) : Prop := ∃ L, L ≤ 28 ∧ F 15 0 = nI L ∧ (∀ k, k < L → ∃ b, b < 28 ∧ F 16 k = nI b ∧ zuse F n b) ∧ (∀ k k2, k < L → k2 < L → F 16 k = F 16 k2 → k = k2) ∧ (∀ i, i < n → ∃ k, k < L ∧ F 16 k = nI i) ∧ (∀ k1 k2 a b, k1 < k2 → k2 < L → a < 14 → b < 14 → F 16 k1 = nI a → F 16 k2 = nI b → ¬ (b < a ∧ zbh F b a)) ∧ (∀ j, j < n → F 1 j = 3 → zsrc (F 17) j)
theorem zSch_same {F G : Nat → Nat → Int32} {n : Nat} (e1 : G 1 = F 1) (e2 : G 2 = F 2) (e3 : G 3 = F 3) (e4 : G 4 = F 4) (e15 : G 15 = F 15) (e16 : G 16 = F 16) (e17 : G 17 = F 17) (h : zSch F n) : zSch G n := by
  unfold zSch zuse zbh at *
  rw [e1, e2, e3, e4, e15, e16, e17]; exact h
theorem zSch_of {G : Nat → Nat → Int32} {n c L : Nat} (h14 : n ≤ 14) (d : zDag G n) (hs : ∀ j, j < n → G 1 j = 3 → zsrc (G 17) j) (h : zSI G c L) (hp : zPr G 100 L) : zSch G n := by
  have hL := zSI_le h
  obtain ⟨h1, h2, h3, h4, h5, h6⟩ := h
  have all : ∀ b, b < 28 → ¬ G 11 b = 0 → 0 ≤ G 14 b := by
    rcases hp with hp | ⟨e, a, b, -⟩
    · exact hp
    · omega
  refine ⟨L, hL, h1, fun k hk => ?_, h5, fun i hi => ?_, fun k1 k2 a b hk hk2 ha hb ea eb hbad => ?_, hs⟩
  · obtain ⟨b, hb, e, hu, -⟩ := h2 k hk
    exact ⟨b, hb, e, (d.1 b hb).mp hu⟩
  · exact h3 i (by omega) (all i (by omega) ((d.1 i (by omega)).mpr (Or.inl hi)))
  · obtain ⟨b2, hb2, e2, hu, -⟩ := h2 k1 (by omega)
    have : a = b2 := (nI_eq (by omega) (by omega)).mp (ea.symm.trans e2)
    subst this
    have han : a < n := by
      rcases (d.1 a (by omega)).mp hu with q | ⟨q, -, -⟩
      · exact q
      · omega
    obtain ⟨k3, hk3, e3⟩ := h6 k1 a (by omega) (by omega) ea b (by omega) ((d.2.1 a han b (by omega)).mpr (Or.inl hbad))
    have := h5 k3 k2 (by omega) hk2 (e3.trans eb.symm)
    omega
/-- the schedule's loop at cycle c -/
def zSL (F G : Nat → Nat → Int32) (n c d : Nat) : Prop := zsame [10, 11, 12, 13, 14, 15, 16, 17] F G ∧ zDag G n ∧ (∀ j, j < n → G 1 j = 3 → zsrc (G 17) j) ∧ ∃ L, zSI G c L ∧ zPr G d L
theorem zSL_put3 {F G : Nat → Nat → Int32} {n c L k : Nat} (h1 : zsame [10, 11, 12, 13, 14, 15, 16, 17] F G) (h2 : zDag G n) : zsame [10, 11, 12, 13, 14, 15, 16, 17] F (zput3 G c L k) ∧ zDag (zput3 G c L k) n := by
  have s : zsame [14, 15, 16] G (zput3 G c L k) := zsame_put (zsame_put (zsame_put (zsame_rf _ _) (by decide)) (by decide)) (by decide)
  exact ⟨zsame_tr h1 (zsame_up s (by decide)), zDag_same s (by decide) (by decide) (by decide) (by decide) (by decide) (by decide) h2⟩
theorem zSL_first {F G G' : Nat → Nat → Int32} {n c L : Nat} (h14 : n ≤ 14) (hc : c < 100) (h1 : zsame [10, 11, 12, 13, 14, 15, 16, 17] F G) (h2 : zDag G n) (h3 : ∀ j, j < n → G 1 j = 3 → zsrc (G 17) j) (hI : zSI G c L) (hP : zPr G c L) (hi : zIss G (nI c) L G') : zSL F G' n c (c + 1) := by
  rcases hi with ⟨rfl, hn⟩ | ⟨k, hk, hm, rfl⟩
  · exact ⟨h1, h2, h3, L, hI, zPr_idle h2 h14 (by omega) hI hP hn⟩
  · have s := zSL_put3 (c := c) (L := L) (k := k) h1 h2
    exact ⟨s.1, s.2, h3, L + 1, zSI_issue (by omega) hI hk hm, zPr_issue hI hk hm hP (by omega) (by omega)⟩
theorem zSL_second {F G G' : Nat → Nat → Int32} {n c L : Nat} (hc : c < 100) (h1 : zsame [10, 11, 12, 13, 14, 15, 16, 17] F G) (h2 : zDag G n) (h3 : ∀ j, j < n → G 1 j = 3 → zsrc (G 17) j) (hI : zSI G c L) (hP : zPr G (c + 1) L) (hi : zIss G (nI c) L G') : zSL F G' n (c + 1) (c + 1) := by
  rcases hi with ⟨rfl, hn⟩ | ⟨k, hk, hm, rfl⟩
  · exact ⟨h1, h2, h3, L, zSI_up hI, hP⟩
  · have s := zSL_put3 (c := c) (L := L) (k := k) h1 h2
    exact ⟨s.1, s.2, h3, L + 1, zSI_up (zSI_issue (by omega) hI hk hm), zPr_issue hI hk hm hP (by omega) (by omega)⟩
theorem zSL_start {F G H : Nat → Nat → Int32} {n : Nat} (h : zOrd F G n) (hs : zsame [13] G H) : zSL F (zput H 15 (fun _ => nI 0)) n 0 0 := by
  have d := zDag_of h
  obtain ⟨h1, h2, h3, h4, h5, h6⟩ := h
  have s : zsame [13, 15] G (zput H 15 (fun _ => nI 0)) := zsame_put (zsame_up hs (by decide)) (by decide)
  have e14 : zput H 15 (fun _ => nI 0) 14 = G 14 := s 14 (by decide)
  refine ⟨zsame_tr (zsame_up h1 (by decide)) (zsame_up s (by decide)), zDag_same s (by decide) (by decide) (by decide) (by decide) (by decide) (by decide) d, ?_, 0, ⟨rfl, fun k hk => absurd hk (by omega), ?_, ?_, fun k k2 hk => absurd hk (by omega), fun k b hk => absurd hk (by omega)⟩, Or.inr ⟨0, by omega, by omega, ?_⟩⟩
  · rw [s 17 (by decide), s 1 (by decide), h1 1 (by decide)]; exact h6
  · intro b hb hq
    rw [e14, h5 b hb] at hq
    exact absurd hq (by decide)
  · intro b hb
    rw [e14]; exact Or.inl (h5 b hb)
  · intro b hb hq
    rw [e14, h5 b hb] at hq
    exact absurd hq (by decide)
theorem zSL_end {F G : Nat → Nat → Int32} {n : Nat} (h14 : n ≤ 14) (h : zSL F G n 100 100) : zSch (zput G 10 (fun _ => 1)) n := by
  obtain ⟨h1, h2, h3, L, hI, hP⟩ := h
  exact zSch_same (F := G) rfl rfl rfl rfl rfl rfl rfl (zSch_of h14 h2 h3 hI hP)
end
section
/-! contract of schedule (printed by gen5.py) -/
set_option maxRecDepth 100000
set_option maxHeartbeats 4000000 in
set_option maxRecDepth 100000 in
theorem m_schedule (l : Launch) (D : va_G) (h0 : Nat) (ad : Nat → Nat) (cs : Nat → ClassId) (F : Nat → Nat → Int32) (n : Nat) (hn : F 0 0 = nI n) (h14 : n ≤ 14) (hr : ¬ F 10 0 = 0 → zSch F n) : MV l yX0_schedule cX0_schedule 2 3 70 D (tyX cs) (wX h0 ad cs) [.ref h0] F (fun F' => zsame [10, 11, 12, 13, 14, 15, 16, 17] F F' ∧ ¬ F' 10 0 = 0 ∧ zSch F' n) := by
  refine MV_start [(0, .ref h0)] (by decide) (Nat.le_of_ble_eq_true rfl) rfl ?_
  intro Z K E
  have loop : ∀ (N c : Nat) (G : Nat → Nat → Int32), c ≤ 100 → 100 < c + N → zSL F G n c c → zG Z (wX h0 ad cs) 23 [(1, .int (nI c)), (0, .ref h0)] [] G := by
    intro N
    induction N with
    | zero => intro c G h1 h2; exact absurd h2 (by omega)
    | succ N ih =>
      intro c G hc hN hS
      obtain ⟨b1, b2, b3, L, hI, hP⟩ := id hS
      refine z_iload_n 23 24 K 0 dX0_schedule_23 rfl rfl rfl ?_
      refine z_bipush 24 26 K 100 dX0_schedule_24 rfl (by decide) ?_
      refine z_icmp_geN 26 29 45 K c 100 rfl rfl (by omega) (by omega) dX0_schedule_26 rfl (by decide) (fun c26 => ?_) (fun c26 => ?_)
      · obtain rfl : c = 100 := by omega
        refine z_aload_n 45 46 K 1 dX0_schedule_45 rfl rfl rfl ?_
        refine z_iconst 46 47 K 1 dX0_schedule_46 rfl (by decide) ?_
        refine xp_10 47 50 K rfl rfl dX0_schedule_47 rfl ?_
        exact z_vret K E 50 dX0_schedule_50 ⟨zsame_put b1 (by decide), by show ¬ (1 : Int32) = 0; decide, zSL_end h14 hS⟩
      · refine z_aload_n 29 30 K 1 dX0_schedule_29 rfl rfl rfl ?_
        refine z_iload_n 30 31 K 0 dX0_schedule_30 rfl rfl rfl ?_
        refine z_callv (ci := 0) (q := (RX0, TX0, 23)) 31 34 1 K (m_issueOne (zl Z) (zD Z) h0 ad cs _ L hI.1 (nI c) (zSI_room hI)) (lw_V q218 q220 qs13 q28 q221) (by decide +kernel) ⟨by decide, by decide⟩ rfl rfl rfl rfl (Nat.le_of_ble_eq_true rfl) dX0_schedule_31 rfl (fun G31 h31 => ?_)
        obtain ⟨a1, a2, a3, M, a4, a5⟩ := zSL_first h14 c26 b1 b2 b3 hI hP h31
        refine z_aload_n 34 35 K 1 dX0_schedule_34 rfl rfl rfl ?_
        refine z_iload_n 35 36 K 0 dX0_schedule_35 rfl rfl rfl ?_
        refine z_callv (ci := 0) (q := (RX0, TX0, 23)) 36 39 1 K (m_issueOne (zl Z) (zD Z) h0 ad cs _ M a4.1 (nI c) (zSI_room a4)) (lw_V q218 q220 qs13 q28 q221) (by decide +kernel) ⟨by decide, by decide⟩ rfl rfl rfl rfl (Nat.le_of_ble_eq_true rfl) dX0_schedule_36 rfl (fun G36 h36 => ?_)
        refine z_iinc 39 42 K [(1, .int (nI (c + 1))), (0, .ref h0)] 0 dX0_schedule_39 rfl rfl (nI_1 _) (by decide) rfl ?_
        refine z_goto 42 23 K dX0_schedule_42 (by decide) ?_
        exact z_lv [0, 1] rfl (ih (c + 1) _ (by omega) (by omega) (zSL_second c26 a1 a2 a3 a4 a5 h36))
  refine z_aload_n 0 1 K 0 dX0_schedule_0 rfl rfl rfl ?_
  refine xg_10 1 4 K dX0_schedule_1 rfl ?_
  refine z_if_eq 4 7 8 K dX0_schedule_4 rfl (by decide) (fun c4 => ?_) (fun c4 => ?_)
  · refine z_aload_n 8 9 K 0 dX0_schedule_8 rfl rfl rfl ?_
    refine z_callv (ci := 0) (q := (RX0, TX0, 23)) 9 12 0 K (m_orderAll (zl Z) (zD Z) h0 ad cs _ n hn h14) (lw_V q182 q184 qs4 q28 q185) (by decide +kernel) ⟨by decide, by decide⟩ rfl rfl rfl rfl (Nat.le_of_ble_eq_true rfl) dX0_schedule_9 rfl (fun G9 h9 => ?_)
    refine z_aload_n 12 13 K 0 dX0_schedule_12 rfl rfl rfl ?_
    refine z_callv (ci := 0) (q := (RX0, TX0, 23)) 13 16 0 K (m_measure (zl Z) (zD Z) h0 ad cs _) (lw_V q206 q208 qs10 q28 q209) (by decide +kernel) ⟨by decide, by decide⟩ rfl rfl rfl rfl (Nat.le_of_ble_eq_true rfl) dX0_schedule_13 rfl (fun G13 h13 => ?_)
    refine z_aload_n 16 17 K 0 dX0_schedule_16 rfl rfl rfl ?_
    refine z_iconst 17 18 K (nI 0) dX0_schedule_17 rfl (by decide) ?_
    refine xp_15 18 21 K dX0_schedule_18 rfl ?_
    refine z_iconst 21 22 K (nI 0) dX0_schedule_21 rfl (by decide) ?_
    refine z_istore_n 22 23 K [(1, .int (nI 0)), (0, .ref h0)] dX0_schedule_22 rfl rfl (by decide) rfl ?_
    exact z_lv [0, 1] rfl (loop 101 0 _ (by omega) (by omega) (zSL_start h9 h13))
  · exact z_vret K E 7 dX0_schedule_7 ⟨zsame_rf _ _, c4, hr c4⟩
end
section
/-! the plain law of reordering: an order in which no instruction passes one that it must stay behind runs as the program stands -/
abbrev zS3 : Type := Int32 × (Nat → Int32) × (Nat → Int32)
noncomputable def zstep (P : Nat → Nat → Int32) (s : zS3) (i : Nat) : zS3 := if s.1 < 0 then zxs P i s.2.1 s.2.2 else s
noncomputable def zfold (P : Nat → Nat → Int32) (l : List Nat) (s : zS3) : zS3 := l.foldl (zstep P) s
theorem zfold_nil (P : Nat → Nat → Int32) (s : zS3) : zfold P [] s = s := rfl
theorem zfold_cons (P : Nat → Nat → Int32) (a : Nat) (l : List Nat) (s : zS3) : zfold P (a :: l) s = zfold P l (zstep P s a) := rfl
theorem zfold_app (P : Nat → Nat → Int32) (l1 l2 : List Nat) (s : zS3) : zfold P (l1 ++ l2) s = zfold P l2 (zfold P l1 s) := List.foldl_append
theorem zstep_end {P : Nat → Nat → Int32} {s : zS3} (h : ¬ s.1 < 0) (i : Nat) : zstep P s i = s := if_neg h
theorem zstep_on {P : Nat → Nat → Int32} {s : zS3} (h : s.1 < 0) (i : Nat) : zstep P s i = zxs P i s.2.1 s.2.2 := if_pos h
theorem zstep_go (P : Nat → Nat → Int32) (R M : Nat → Int32) (i : Nat) : zstep P (-1, R, M) i = zxs P i R M := zstep_on (s := (-1, R, M)) (show (-1 : Int32) < 0 by decide) i
theorem zfold_end {P : Nat → Nat → Int32} {s : zS3} (h : ¬ s.1 < 0) (l : List Nat) : zfold P l s = s := by
  induction l with
  | nil => rfl
  | cons a l ih => rw [zfold_cons, zstep_end h, ih]
/-- what an instruction that isn't a fence writes -/
def zval (P : Nat → Nat → Int32) (i : Nat) (R : Nat → Int32) : Int32 :=
  if P 1 i = 0 then P 5 i else if P 1 i = 1 then R (P 3 i).toNatClampNeg + R (P 4 i).toNatClampNeg else R (P 3 i).toNatClampNeg - R (P 4 i).toNatClampNeg
theorem znf {P : Nat → Nat → Int32} {i : Nat} (hw : zwf P i) (hf : ¬ 3 ≤ P 1 i) : vp_in (P 2 i) 8 ∧ (P 1 i = 0 ∨ ((P 1 i = 1 ∨ P 1 i = 2) ∧ vp_in (P 3 i) 8 ∧ vp_in (P 4 i) 8)) := by
  rcases hw with h | h | h | h | h | h <;> obtain ⟨h1, h2, h3, h4⟩ := h
  · exact ⟨h2, Or.inl h1⟩
  · exact ⟨h2, Or.inr ⟨Or.inl h1, h3, h4⟩⟩
  · exact ⟨h2, Or.inr ⟨Or.inr h1, h3, h4⟩⟩
  · exact absurd (by rw [h1]; decide) hf
  · exact absurd (by rw [h1]; decide) hf
  · exact absurd (by rw [h1]; decide) hf
theorem zxs_val {P : Nat → Nat → Int32} {i : Nat} (hw : zwf P i) (hf : ¬ 3 ≤ P 1 i) (R M : Nat → Int32) : zxs P i R M = (-1, upd R (P 2 i).toNatClampNeg (zval P i R), M) := by
  rcases (znf hw hf).2 with h | ⟨h | h, -, -⟩
  · rw [zxs_c h]; unfold zval; rw [if_pos h]
  · rw [zxs_a h]; unfold zval; rw [if_neg (by rw [h]; decide), if_pos h]
  · rw [zxs_s h]; unfold zval; rw [if_neg (by rw [h]; decide), if_neg (by rw [h]; decide)]
theorem zval_upd {P : Nat → Nat → Int32} {i : Nat} {d : Int32} (hw : zwf P i) (hf : ¬ 3 ≤ P 1 i) (hd : vp_in d 8) (h3 : ¬ P 3 i = d) (h4 : ¬ P 4 i = d) (R : Nat → Int32) (v : Int32) : zval P i (upd R d.toNatClampNeg v) = zval P i R := by
  unfold zval
  rcases (znf hw hf).2 with h | ⟨h, a, b⟩
  · rw [if_pos h, if_pos h]
  · rw [pk_un (fun q => h3 (zcl_inj (by decide) a hd q)), pk_un (fun q => h4 (zcl_inj (by decide) b hd q))]
theorem upd_comm {R : Nat → Int32} {a b : Nat} {u v : Int32} (h : a ≠ b) : upd (upd R a u) b v = upd (upd R b v) a u := by
  funext j
  by_cases h1 : j = a
  · subst h1; rw [pk_un h, pk_us, pk_us]
  · by_cases h2 : j = b
    · subst h2; rw [pk_us, pk_un h1, pk_us]
    · rw [pk_un h2, pk_un h1, pk_un h1, pk_un h2]
theorem zstep_comm {P : Nat → Nat → Int32} {a b : Nat} (ha : zwf P a) (hb : zwf P b) (h : ¬ zbh P b a) (s : zS3) : zstep P (zstep P s a) b = zstep P (zstep P s b) a := by
  have fb : ¬ 3 ≤ P 1 b := fun z => h (Or.inl z)
  have fa : ¬ 3 ≤ P 1 a := fun z => h (Or.inr (Or.inl z))
  have hd : ¬ P 2 b = P 2 a := fun z => h (Or.inr (Or.inr (Or.inl z)))
  have r3 : ¬ P 3 a = P 2 b := fun z => h (Or.inr (Or.inr (Or.inr (Or.inl (Or.inl z)))))
  have r4 : ¬ P 4 a = P 2 b := fun z => h (Or.inr (Or.inr (Or.inr (Or.inl (Or.inr z)))))
  have q3 : ¬ P 3 b = P 2 a := fun z => h (Or.inr (Or.inr (Or.inr (Or.inr (Or.inl z)))))
  have q4 : ¬ P 4 b = P 2 a := fun z => h (Or.inr (Or.inr (Or.inr (Or.inr (Or.inr z)))))
  by_cases hs : s.1 < 0
  · have ea : zstep P s a = (-1, upd s.2.1 (P 2 a).toNatClampNeg (zval P a s.2.1), s.2.2) := (zstep_on hs a).trans (zxs_val ha fa _ _)
    have eb : zstep P s b = (-1, upd s.2.1 (P 2 b).toNatClampNeg (zval P b s.2.1), s.2.2) := (zstep_on hs b).trans (zxs_val hb fb _ _)
    rw [ea, eb, zstep_go, zstep_go, zxs_val ha fa, zxs_val hb fb]
    rw [zval_upd hb fb (znf ha fa).1 q3 q4, zval_upd ha fa (znf hb fb).1 r3 r4, upd_comm (fun q => hd (zcl_inj (by decide) (znf ha fa).1 (znf hb fb).1 q).symm)]
  · rw [zstep_end hs, zstep_end hs, zstep_end hs]
theorem zmove {P : Nat → Nat → Int32} {k : Nat} (hk : zwf P k) (l2 : List Nat) : ∀ (l1 : List Nat), (∀ b ∈ l1, zwf P b ∧ ¬ zbh P k b) → ∀ s, zfold P (l1 ++ k :: l2) s = zfold P (k :: (l1 ++ l2)) s := by
  intro l1
  induction l1 with
  | nil => intro _ s; rfl
  | cons b l1 ih =>
    intro h s
    have hb := h b List.mem_cons_self
    rw [List.cons_append, zfold_cons, ih (fun c hc => h c (List.mem_cons_of_mem _ hc)), zfold_cons, zfold_cons, List.cons_append, zfold_cons, zstep_comm hb.1 hk hb.2]
theorem zsort {P : Nat → Nat → Int32} : ∀ (m k : Nat) (l : List Nat), (∀ i, i ∈ l ↔ (k ≤ i ∧ i < k + m)) → (∀ i, i ∈ l → zwf P i) → l.Pairwise (fun a b => a ≠ b ∧ ¬ (b < a ∧ zbh P b a)) → ∀ s, zfold P l s = zfold P (List.range' k m) s := by
  intro m
  induction m with
  | zero =>
    intro k l h1 _ _ s
    have : l = [] := by
      cases l with
      | nil => rfl
      | cons a l => have := (h1 a).mp List.mem_cons_self; omega
    rw [this]; rfl
  | succ m ih =>
    intro k l h1 h2 h3 s
    obtain ⟨l1, l2, e⟩ := List.append_of_mem ((h1 k).mpr ⟨Nat.le_refl k, by omega⟩)
    subst e
    rw [List.pairwise_append] at h3
    obtain ⟨p1, p2, p3⟩ := h3
    rw [List.pairwise_cons] at p2
    obtain ⟨p4, p5⟩ := p2
    have hk : zwf P k := h2 k (List.mem_append_right _ List.mem_cons_self)
    have hl1 : ∀ b ∈ l1, zwf P b ∧ ¬ zbh P k b := by
      intro b hb
      have q := p3 b hb k List.mem_cons_self
      have hm : b ∈ l1 ++ k :: l2 := List.mem_append_left _ hb
      have r := (h1 b).mp hm
      exact ⟨h2 b hm, fun z => q.2 ⟨by have := q.1; omega, z⟩⟩
    rw [zmove hk l2 l1 hl1 s, zfold_cons, List.range'_succ, zfold_cons]
    refine ih (k + 1) (l1 ++ l2) (fun i => ?_) (fun i hi => h2 i ?_) ?_ _
    · constructor
      · intro hi
        have hne : i ≠ k := by
          rcases List.mem_append.mp hi with q | q
          · exact (p3 i q k List.mem_cons_self).1
          · exact fun e => (p4 i q).1 e.symm
        have r := (h1 i).mp (by
          rcases List.mem_append.mp hi with q | q
          · exact List.mem_append_left _ q
          · exact List.mem_append_right _ (List.mem_cons_of_mem _ q))
        omega
      · intro hi
        have r := (h1 i).mpr (by omega)
        rcases List.mem_append.mp r with q | q
        · exact List.mem_append_left _ q
        · rcases List.mem_cons.mp q with e | q
          · omega
          · exact List.mem_append_right _ q
    · rcases List.mem_append.mp hi with q | q
      · exact List.mem_append_left _ q
      · exact List.mem_append_right _ (List.mem_cons_of_mem _ q)
    · rw [List.pairwise_append]
      exact ⟨p1, p5, fun a ha b hb => p3 a ha b (List.mem_cons_of_mem _ hb)⟩
/-- the instructions among the first k that are issued -/
def zpre (F : Nat → Nat → Int32) : Nat → List Nat
  | 0 => []
  | k + 1 => zpre F k ++ (if (F 16 k).toNatClampNeg < 14 then [(F 16 k).toNatClampNeg] else [])
theorem zpre_mem {F : Nat → Nat → Int32} {a : Nat} : ∀ k, a ∈ zpre F k ↔ (a < 14 ∧ ∃ j, j < k ∧ (F 16 j).toNatClampNeg = a) := by
  intro k
  induction k with
  | zero => exact ⟨fun h => absurd h List.not_mem_nil, fun ⟨_, j, h, _⟩ => absurd h (by omega)⟩
  | succ k ih =>
    show a ∈ zpre F k ++ _ ↔ _
    rw [List.mem_append, ih]
    constructor
    · rintro (⟨h1, j, h2, h3⟩ | h)
      · exact ⟨h1, j, by omega, h3⟩
      · by_cases q : (F 16 k).toNatClampNeg < 14
        · rw [if_pos q] at h
          have e := List.mem_singleton.mp h
          exact ⟨by omega, k, by omega, e.symm⟩
        · rw [if_neg q] at h
          exact absurd h List.not_mem_nil
    · rintro ⟨h1, j, h2, h3⟩
      rcases Nat.lt_or_ge j k with q | q
      · exact Or.inl ⟨h1, j, q, h3⟩
      · have e : j = k := by omega
        subst e
        rw [if_pos (by omega)]
        exact Or.inr (by rw [h3]; exact List.mem_singleton.mpr rfl)
theorem zpre_pair {F : Nat → Nat → Int32} {R : Nat → Nat → Prop} {L : Nat} (h : ∀ k1 k2, k1 < k2 → k2 < L → (F 16 k1).toNatClampNeg < 14 → (F 16 k2).toNatClampNeg < 14 → R (F 16 k1).toNatClampNeg (F 16 k2).toNatClampNeg) : ∀ k, k ≤ L → (zpre F k).Pairwise R := by
  intro k
  induction k with
  | zero => intro _; exact List.Pairwise.nil
  | succ k ih =>
    intro hk
    show (zpre F k ++ _).Pairwise R
    rw [List.pairwise_append]
    by_cases q : (F 16 k).toNatClampNeg < 14
    · rw [if_pos q]
      refine ⟨ih (by omega), List.pairwise_singleton _ _, fun a ha b hb => ?_⟩
      obtain ⟨h1, j, hj, e⟩ := (zpre_mem k).mp ha
      rw [List.mem_singleton.mp hb, ← e]
      exact h j k hj (by omega) (by omega) q
    · rw [if_neg q]
      exact ⟨ih (by omega), List.Pairwise.nil, fun a ha b hb => absurd hb List.not_mem_nil⟩
/-- a right schedule runs as the program stands -/
theorem zSch_runs {F : Nat → Nat → Int32} {n L : Nat} (h14 : n ≤ 14) (hw : ∀ i, i < n → zwf F i) (h1 : ∀ k, k < L → ∃ b, b < 28 ∧ F 16 k = nI b ∧ zuse F n b) (h2 : ∀ k k2, k < L → k2 < L → F 16 k = F 16 k2 → k = k2) (h3 : ∀ i, i < n → ∃ k, k < L ∧ F 16 k = nI i) (h4 : ∀ k1 k2 a b, k1 < k2 → k2 < L → a < 14 → b < 14 → F 16 k1 = nI a → F 16 k2 = nI b → ¬ (b < a ∧ zbh F b a)) (s : zS3) : zfold F (zpre F L) s = zfold F (List.range' 0 n) s := by
  have cl : ∀ k, k < L → F 16 k = nI (F 16 k).toNatClampNeg := by
    intro k hk
    obtain ⟨b, hb, e, -⟩ := h1 k hk
    rw [e, nI_clamp (by omega)]
  have mem : ∀ i, i ∈ zpre F L ↔ (0 ≤ i ∧ i < 0 + n) := by
    intro i
    rw [zpre_mem]
    constructor
    · rintro ⟨a, j, hj, e⟩
      obtain ⟨b, hb, e2, hu⟩ := h1 j hj
      rw [e2, nI_clamp (by omega)] at e
      subst e
      rcases hu with q | ⟨q, -, -⟩
      · omega
      · omega
    · rintro ⟨-, a⟩
      obtain ⟨k, hk, e⟩ := h3 i (by omega)
      exact ⟨by omega, k, hk, by rw [e, nI_clamp (by omega)]⟩
  refine zsort n 0 (zpre F L) mem (fun i hi => hw i (by have := (mem i).mp hi; omega)) (zpre_pair (L := L) (fun k1 k2 a b c d => ⟨fun e => ?_, ?_⟩) L (Nat.le_refl L)) s
  · have := h2 k1 k2 (by omega) b (by rw [cl k1 (by omega), cl k2 b, e])
    omega
  · exact h4 k1 k2 _ _ a b c d (cl k1 (by omega)) (cl k2 b)
theorem zflt_same {F G : Nat → Nat → Int32} (e8 : G 8 = F 8) (x : Int32) : zflt G x ↔ zflt F x := by unfold zflt; rw [e8]
theorem zxs_same {F G : Nat → Nat → Int32} (e1 : G 1 = F 1) (e2 : G 2 = F 2) (e3 : G 3 = F 3) (e4 : G 4 = F 4) (e5 : G 5 = F 5) (e8 : G 8 = F 8) (i : Nat) (R M : Nat → Int32) : zxs G i R M = zxs F i R M := by
  unfold zxs zad zflt
  rw [e1, e2, e3, e4, e5, e8]
theorem zfold_same {F G : Nat → Nat → Int32} (e1 : G 1 = F 1) (e2 : G 2 = F 2) (e3 : G 3 = F 3) (e4 : G 4 = F 4) (e5 : G 5 = F 5) (e8 : G 8 = F 8) (l : List Nat) (s : zS3) : zfold G l s = zfold F l s := by
  have : zstep G = zstep F := by
    funext s i
    unfold zstep
    rw [zxs_same e1 e2 e3 e4 e5 e8]
  unfold zfold
  rw [this]
end
section
/-! words and plain laws of run and repeat, and of the reference -/
theorem MI_mono {σ : Type} {l : Launch} {y : MethodName} {cc : ByteArray} {nL : Nat} {ty : FieldType} {fr lc : Nat} {D : va_G} {tys : List (ClassId × FieldType)} {w : σ → va_W} {av : List Value} {F : σ} {post post2 : Int32 → σ → Prop} (h : MI l y cc nL ty fr lc D tys w av F post) (hp : ∀ r F', post r F' → post2 r F') : MI l y cc nL ty fr lc D tys w av F post2 := by
  intro sz p e a b c s m args below h1 h2 h3 h4
  obtain ⟨n, o, x1, x2, x3, ⟨⟨⟨r, u, e1, e2, e3⟩, e4⟩, e5⟩⟩ := h sz p e a b c s m args below h1 h2 h3 h4
  exact ⟨n, o, x1, x2, x3, ⟨⟨⟨r, u, e1, hp r u e2, e3⟩, e4⟩, e5⟩⟩
def zEx (F : Nat → Nat → Int32) (Ex : Nat → Prop) (b : Nat) (r : Int32) (F' : Nat → Nat → Int32) : Prop := (b < 14 ∧ (r, F' 6, F' 7) = zxs F b (F 6) (F 7) ∧ zsame [6, 7, 21] F F' ∧ zWI F' Ex) ∨ (∃ i, b = 14 + i ∧ r = -1 ∧ zsame [18, 19, 20, 21, 22] F F' ∧ zVi F' ∧ zWI F' (fun j => Ex j ∨ j = i))
def zExP (F : Nat → Nat → Int32) (Ex : Nat → Prop) (b : Nat) : Prop := (b < 14 ∧ zwf F b) ∨ ∃ i, i < 14 ∧ b = 14 + i ∧ zsrc (F 17) i ∧ vp_in (F 3 i) 8 ∧ ¬ Ex i
theorem m_exec (l : Launch) (D : va_G) (h0 : Nat) (ad : Nat → Nat) (cs : Nat → ClassId) (F : Nat → Nat → Int32) (Ex : Nat → Prop) (b : Nat) (hb : zExP F Ex b) (hv : zVi F) (hW : zWI F Ex) : MI l yX0_execute cX0_execute 4 .int 3 66 D (tyX cs) (wX h0 ad cs) [.ref h0, .int (nI b)] F (zEx F Ex b) := by
  rcases hb with ⟨hb, hw⟩ | ⟨i, hi, rfl, hs, hle, hE⟩
  · exact MI_mono (m_execI l D h0 ad cs F Ex b hb hw hW) (fun r F' h => Or.inl ⟨hb, h⟩)
  · exact MI_mono (m_execE l D h0 ad cs F Ex i hi hs hle hv hW hE) (fun r F' h => Or.inr ⟨i, rfl, h⟩)
def zend (e : Int32) : Int32 := if e < 0 then 0 else e
theorem zend_n {e : Int32} (h : e < 0) : zend e = 0 := if_pos h
theorem zend_p {e : Int32} (h : 0 ≤ e) : zend e = e := if_neg (zlt_not h)
theorem zxs_e (P : Nat → Nat → Int32) {i : Nat} (hi : i < 14) (hw : zwf P i) (R M : Nat → Int32) : (zxs P i R M).1 = -1 ∨ 0 < (zxs P i R M).1 := by
  have pos : ∀ k, 0 < k → k < 100 → (0 : Int32) < nI k := fun k h1 h2 => by rw [← nI_0]; exact nI_lt h1 (by omega)
  by_cases hf : 3 ≤ P 1 i
  · rcases hw with h | h | h | h | h | h <;> obtain ⟨h1, -, -, -⟩ := h
    · rw [h1] at hf; exact absurd hf (by decide)
    · rw [h1] at hf; exact absurd hf (by decide)
    · rw [h1] at hf; exact absurd hf (by decide)
    · by_cases q : zflt P (zad P i R)
      · rw [zxs_ldf h1 q]; exact Or.inr (pos _ (by omega) (by omega))
      · rw [zxs_ld h1 q]; exact Or.inl rfl
    · by_cases q : zflt P (zad P i R)
      · rw [zxs_stf h1 q]; exact Or.inr (pos _ (by omega) (by omega))
      · rw [zxs_st h1 q]; exact Or.inl rfl
    · by_cases q : R (P 3 i).toNatClampNeg = 0
      · rw [zxs_lv0 h1 q]; exact Or.inl rfl
      · rw [zxs_lv1 h1 q]; exact Or.inr (pos _ (by omega) (by omega))
  · rw [zxs_val hw hf]; exact Or.inl rfl
theorem zwf_same {F G : Nat → Nat → Int32} (e1 : G 1 = F 1) (e2 : G 2 = F 2) (e3 : G 3 = F 3) (e4 : G 4 = F 4) {i : Nat} (h : zwf F i) : zwf G i := by
  unfold zwf at *
  rw [e1, e2, e3, e4]; exact h
/-- the early loads among the first k that are issued -/
def zex (F : Nat → Nat → Int32) (k : Nat) : Nat → Prop := fun i => ∃ a, a < k ∧ F 16 a = nI (14 + i)
/-- the run's loop: k operations are done -/
def zRI (F : Nat → Nat → Int32) (k : Nat) (e : Int32) (G : Nat → Nat → Int32) : Prop := zsame [6, 7, 18, 19, 20, 21, 22] F G ∧ zVi G ∧ zWI G (zex F k) ∧ zfold F (zpre F k) (-1, F 6, F 7) = (e, G 6, G 7) ∧ (e = -1 ∨ 0 < e)
theorem zneg_of {e : Int32} (h : e = -1 ∨ 0 < e) (hn : ¬ 0 ≤ e) : e = -1 := by
  rcases h with h | h
  · exact h
  · exact absurd (by rw [Int32.lt_iff_toInt_lt] at h; rw [Int32.le_iff_toInt_le]; omega) hn
theorem zRI_pre {F G : Nat → Nat → Int32} {n L k b : Nat} {e : Int32} (h14 : n ≤ 14) (hw : ∀ i, i < n → zwf F i) (o2 : ∀ k k2, k < L → k2 < L → F 16 k = F 16 k2 → k = k2) (o5 : ∀ j, j < n → F 1 j = 3 → zsrc (F 17) j) (hk : k < L) (hb : F 16 k = nI b) (hu : zuse F n b) (h : zRI F k e G) : zExP G (zex F k) b := by
  obtain ⟨s, -, -, -, -⟩ := h
  rcases hu with hu | ⟨h1, h2, h3⟩
  · exact Or.inl ⟨by omega, zwf_same (s 1 (by decide)) (s 2 (by decide)) (s 3 (by decide)) (s 4 (by decide)) (hw b hu)⟩
  · refine Or.inr ⟨b - 14, by omega, by omega, ?_, ?_, ?_⟩
    · rw [s 17 (by decide)]; exact o5 _ h2 h3
    · rw [s 3 (by decide)]; exact (zwf_3 (hw _ h2) h3).2
    · rintro ⟨a, ha, e⟩
      rw [show 14 + (b - 14) = b by omega] at e
      have := o2 a k (by omega) hk (e.trans hb.symm)
      omega
theorem zpre_s (F : Nat → Nat → Int32) (k : Nat) : zpre F (k + 1) = zpre F k ++ (if (F 16 k).toNatClampNeg < 14 then [(F 16 k).toNatClampNeg] else []) := rfl
theorem zRI_step {F G G' : Nat → Nat → Int32} {n k b : Nat} {e r : Int32} (hw : ∀ i, i < n → zwf F i) (hb28 : b < 28) (hb : F 16 k = nI b) (hu : zuse F n b) (h : zRI F k e G) (he : ¬ 0 ≤ e) (hx : zEx G (zex F k) b r G') : zRI F (k + 1) r G' := by
  obtain ⟨s, hv, hW, hf, hm⟩ := h
  have e1 := zneg_of hm he
  subst e1
  have cb : (F 16 k).toNatClampNeg = b := by rw [hb, nI_clamp (by omega)]
  rcases hx with ⟨hb14, x1, x2, x3⟩ | ⟨i, rfl, x1, x2, x3, x4⟩
  · have hbn : b < n := by
      rcases hu with q | ⟨q, -, -⟩
      · exact q
      · omega
    rw [zxs_same (s 1 (by decide)) (s 2 (by decide)) (s 3 (by decide)) (s 4 (by decide)) (s 5 (by decide)) (s 8 (by decide))] at x1
    refine ⟨zsame_tr s (zsame_up x2 (by decide)), ?_, fun w hw4 => ?_, ?_, ?_⟩
    · unfold zVi
      rw [x2 20 (by decide)]; exact hv
    · rcases x3 w hw4 with q | ⟨j, a, ⟨a2, ha2, e2⟩, q⟩
      · exact Or.inl q
      · exact Or.inr ⟨j, a, ⟨a2, by omega, e2⟩, q⟩
    · rw [zpre_s, zfold_app, hf, cb, if_pos hb14, zfold_cons, zfold_nil, zstep_go, x1]
    · have := zxs_e F hb14 (hw b hbn) (G 6) (G 7)
      rw [← x1] at this
      exact this
  · subst x1
    refine ⟨zsame_tr s (zsame_up x2 (by decide)), x3, fun w hw4 => ?_, ?_, Or.inl rfl⟩
    · rcases x4 w hw4 with q | ⟨j, a, hj, q⟩
      · exact Or.inl q
      · refine Or.inr ⟨j, a, ?_, q⟩
        rcases hj with ⟨a2, ha2, e2⟩ | rfl
        · exact ⟨a2, by omega, e2⟩
        · exact ⟨k, by omega, hb⟩
    · rw [zpre_s, zfold_app, hf, cb, if_neg (by omega), zfold_nil, x2 6 (by decide), x2 7 (by decide)]
theorem zpre_end {P F : Nat → Nat → Int32} {k : Nat} {s t : zS3} (h : zfold P (zpre F k) s = t) (ht : ¬ t.1 < 0) : ∀ m, zfold P (zpre F (k + m)) s = t := by
  intro m
  induction m with
  | zero => exact h
  | succ m ih => rw [← Nat.add_assoc, zpre_s, zfold_app, ih, zfold_end ht]
/-- what run answers and leaves -/
def zRun (F : Nat → Nat → Int32) (n : Nat) (r : Int32) (F' : Nat → Nat → Int32) : Prop := zsame [6, 7, 9, 10, 11, 12, 13, 14, 15, 16, 17, 18, 19, 20, 21, 22] F F' ∧ zSch F' n ∧ F' 9 0 = r ∧ ∃ e, zfold F (List.range' 0 n) (-1, F 6, F 7) = (e, F' 6, F' 7) ∧ r = zend e
theorem zRun_end {F F1 G : Nat → Nat → Int32} {n L k : Nat} {e : Int32} (h14 : n ≤ 14) (hw : ∀ i, i < n → zwf F i) (s1 : zsame [10, 11, 12, 13, 14, 15, 16, 17] F F1) (s3 : zSch F1 n) (h1 : ∀ k, k < L → ∃ b, b < 28 ∧ F1 16 k = nI b ∧ zuse F1 n b) (h2 : ∀ k k2, k < L → k2 < L → F1 16 k = F1 16 k2 → k = k2) (h3 : ∀ i, i < n → ∃ k, k < L ∧ F1 16 k = nI i) (h4 : ∀ k1 k2 a b, k1 < k2 → k2 < L → a < 14 → b < 14 → F1 16 k1 = nI a → F1 16 k2 = nI b → ¬ (b < a ∧ zbh F1 b a)) (h : zRI F1 k e G) (hk : k ≤ L) (hx : L ≤ k ∨ 0 ≤ e) : zRun F n (zend e) (zput G 9 (fun _ => zend e)) := by
  obtain ⟨s, hv, hW, hf, hm⟩ := h
  have hw1 : ∀ i, i < n → zwf F1 i := fun i hi => zwf_same (s1 1 (by decide)) (s1 2 (by decide)) (s1 3 (by decide)) (s1 4 (by decide)) (hw i hi)
  have hL : zfold F1 (zpre F1 L) (-1, F1 6, F1 7) = (e, G 6, G 7) := by
    rcases hx with q | q
    · rw [show L = k by omega]; exact hf
    · obtain ⟨m, rfl⟩ : ∃ m, L = k + m := ⟨L - k, by omega⟩
      exact zpre_end hf (zlt_not q) m
  refine ⟨zsame_put (zsame_tr (zsame_up s1 (by decide)) (zsame_up s (by decide))) (by decide), ?_, rfl, e, ?_, rfl⟩
  · exact zSch_same (F := F1) (s 1 (by decide)) (s 2 (by decide)) (s 3 (by decide)) (s 4 (by decide)) (s 15 (by decide)) (s 16 (by decide)) (s 17 (by decide)) s3
  · rw [← s1 6 (by decide), ← s1 7 (by decide), ← zfold_same (s1 1 (by decide)) (s1 2 (by decide)) (s1 3 (by decide)) (s1 4 (by decide)) (s1 5 (by decide)) (s1 8 (by decide)), ← zSch_runs h14 hw1 h1 h2 h3 h4, hL]
    rfl
/-- t runs at most, as long as they fall through: how many, the last end, registers, words -/
noncomputable def zrp (P : Nat → Nat → Int32) (n : Nat) : Nat → Int32 → (Nat → Int32) → (Nat → Int32) → Nat × Int32 × (Nat → Int32) × (Nat → Int32)
  | 0, la, R, M => (0, la, R, M)
  | t + 1, _, R, M => if zend (zfold P (List.range' 0 n) (-1, R, M)).1 = 0 then (1 + (zrp P n t 0 (zfold P (List.range' 0 n) (-1, R, M)).2.1 (zfold P (List.range' 0 n) (-1, R, M)).2.2).1, (zrp P n t 0 (zfold P (List.range' 0 n) (-1, R, M)).2.1 (zfold P (List.range' 0 n) (-1, R, M)).2.2).2) else (1, zend (zfold P (List.range' 0 n) (-1, R, M)).1, (zfold P (List.range' 0 n) (-1, R, M)).2)
theorem zrp_0 (P : Nat → Nat → Int32) (n : Nat) (la : Int32) (R M : Nat → Int32) : zrp P n 0 la R M = (0, la, R, M) := rfl
theorem zrp_go {P : Nat → Nat → Int32} {n t : Nat} {la e : Int32} {R M R' M' : Nat → Int32} (h : zfold P (List.range' 0 n) (-1, R, M) = (e, R', M')) (he : zend e = 0) : zrp P n (t + 1) la R M = (1 + (zrp P n t 0 R' M').1, (zrp P n t 0 R' M').2) := by
  show (if zend (zfold P (List.range' 0 n) (-1, R, M)).1 = 0 then _ else _) = _
  rw [h, if_pos he]
theorem zrp_end {P : Nat → Nat → Int32} {n t : Nat} {la e : Int32} {R M R' M' : Nat → Int32} (h : zfold P (List.range' 0 n) (-1, R, M) = (e, R', M')) (he : ¬ zend e = 0) : zrp P n (t + 1) la R M = (1, zend e, R', M') := by
  show (if zend (zfold P (List.range' 0 n) (-1, R, M)).1 = 0 then _ else _) = _
  rw [h, if_neg he]
def zc8 (x : Int32) : Nat := if x < 0 then 0 else if x ≤ 8 then x.toNatClampNeg else 8
theorem zc8_le (x : Int32) : zc8 x ≤ 8 := by
  unfold zc8
  by_cases h : x < 0
  · rw [if_pos h]; omega
  · rw [if_neg h]
    by_cases h2 : x ≤ 8
    · rw [if_pos h2]
      obtain ⟨j, hj, e⟩ := nI_of2 (M := 8) (n := 8) (by decide) h h2
      rw [e, nI_clamp (by omega)]; exact hj
    · rw [if_neg h2]; omega
theorem zc8_n {x : Int32} (h : x < 0) : (0 : Int32) = nI (zc8 x) := by unfold zc8; rw [if_pos h]; rfl
theorem zc8_b {x : Int32} (h : ¬ x < 0) (h2 : ¬ x ≤ 8) : (8 : Int32) = nI (zc8 x) := by unfold zc8; rw [if_neg h, if_neg h2]; rfl
theorem zc8_m {x : Int32} (h : ¬ x < 0) (h2 : x ≤ 8) : x = nI (zc8 x) := by
  obtain ⟨j, hj, e⟩ := nI_of2 (M := 8) (n := 8) (by decide) h h2
  unfold zc8; rw [if_neg h, if_pos h2]
  rw [e, nI_clamp (by omega)]
/-- what repeat answers and leaves -/
def zRep (F : Nat → Nat → Int32) (n T : Nat) (r : Int32) (F' : Nat → Nat → Int32) : Prop := zsame [6, 7, 9, 10, 11, 12, 13, 14, 15, 16, 17, 18, 19, 20, 21, 22] F F' ∧ (¬ F' 10 0 = 0 → zSch F' n) ∧ ∃ q, zrp F n T (F 9 0) (F 6) (F 7) = (q, F' 9 0, F' 6, F' 7) ∧ r = nI q
/-- its loop -/
def zRpI (F : Nat → Nat → Int32) (n T i : Nat) (on : Int32) (G : Nat → Nat → Int32) : Prop := zsame [6, 7, 9, 10, 11, 12, 13, 14, 15, 16, 17, 18, 19, 20, 21, 22] F G ∧ (¬ G 10 0 = 0 → zSch G n) ∧ ((on = 0 ∧ zrp F n T (F 9 0) (F 6) (F 7) = (i, G 9 0, G 6, G 7)) ∨ (on = 1 ∧ zrp F n T (F 9 0) (F 6) (F 7) = (i + (zrp F n (T - i) (G 9 0) (G 6) (G 7)).1, (zrp F n (T - i) (G 9 0) (G 6) (G 7)).2)))
theorem zRpI_end {F G : Nat → Nat → Int32} {n T i : Nat} {on : Int32} (h : zRpI F n T i on G) (hx : T ≤ i ∨ on = 0) : zRep F n T (nI i) G := by
  obtain ⟨h1, h2, h3⟩ := h
  refine ⟨h1, h2, i, ?_, rfl⟩
  rcases h3 with ⟨-, h3⟩ | ⟨ho, h3⟩
  · exact h3
  · rcases hx with q | q
    · rw [show T - i = 0 by omega, zrp_0] at h3
      exact h3
    · rw [ho] at q; exact absurd q (by decide)
theorem zRpI_go {F G G' : Nat → Nat → Int32} {n T i : Nat} {on r : Int32} (h : zRpI F n T i on G) (hi : i < T) (ho : ¬ on = 0) (hr : zRun G n r G') (e : r = 0) : zRpI F n T (i + 1) 1 G' := by
  obtain ⟨h1, h2, h3⟩ := h
  obtain ⟨r1, r2, r3, e2, r4, r5⟩ := hr
  rw [zfold_same (h1 1 (by decide)) (h1 2 (by decide)) (h1 3 (by decide)) (h1 4 (by decide)) (h1 5 (by decide)) (h1 8 (by decide))] at r4
  refine ⟨zsame_tr h1 r1, fun _ => r2, Or.inr ⟨rfl, ?_⟩⟩
  rcases h3 with ⟨h3, -⟩ | ⟨-, h3⟩
  · exact absurd h3 ho
  · rw [show T - i = (T - (i + 1)) + 1 by omega, zrp_go r4 (by rw [← r5]; exact e)] at h3
    rw [h3, r3, e, Nat.add_assoc]
theorem zRpI_stop {F G G' : Nat → Nat → Int32} {n T i : Nat} {on r : Int32} (h : zRpI F n T i on G) (hi : i < T) (ho : ¬ on = 0) (hr : zRun G n r G') (e : ¬ r = 0) : zRpI F n T (i + 1) 0 G' := by
  obtain ⟨h1, h2, h3⟩ := h
  obtain ⟨r1, r2, r3, e2, r4, r5⟩ := hr
  rw [zfold_same (h1 1 (by decide)) (h1 2 (by decide)) (h1 3 (by decide)) (h1 4 (by decide)) (h1 5 (by decide)) (h1 8 (by decide))] at r4
  refine ⟨zsame_tr h1 r1, fun _ => r2, Or.inl ⟨rfl, ?_⟩⟩
  rcases h3 with ⟨h3, -⟩ | ⟨-, h3⟩
  · exact absurd h3 ho
  · rw [show T - i = (T - (i + 1)) + 1 by omega, zrp_end r4 (by rw [← r5]; exact e)] at h3
    rw [h3, r3, ← r5]
end
section
/-! contracts of run and repeat (printed by gen6.py) -/
set_option maxRecDepth 100000
set_option maxHeartbeats 4000000 in
set_option maxRecDepth 100000 in
theorem m_run (l : Launch) (D : va_G) (h0 : Nat) (ad : Nat → Nat) (cs : Nat → ClassId) (F : Nat → Nat → Int32) (n : Nat) (hn : F 0 0 = nI n) (h14 : n ≤ 14) (hw : ∀ i, i < n → zwf F i) (hr : ¬ F 10 0 = 0 → zSch F n) : MI l yX0_run cX0_run 3 .int 4 91 D (tyX cs) (wX h0 ad cs) [.ref h0] F (fun r F' => zRun F n r F') := by
  refine MI_start [(0, .ref h0)] (by decide) (Nat.le_of_ble_eq_true rfl) rfl ?_
  intro Z K E
  refine z_aload_n 0 1 K 0 dX0_run_0 rfl rfl rfl ?_
  refine z_callv (ci := 0) (q := (RX0, TX0, 23)) 1 4 0 K (m_schedule (zl Z) (zD Z) h0 ad cs _ n hn h14 hr) (lw_V q178 q180 qs3 q28 q181) (by decide +kernel) ⟨by decide, by decide⟩ rfl rfl rfl rfl (Nat.le_of_ble_eq_true rfl) dX0_run_1 rfl (fun G1 h1 => ?_)
  obtain ⟨s1, s2, s3⟩ := h1
  obtain ⟨L, hL28, hL, o1, o2, o3, o4, o5⟩ := id s3
  have hw1 : ∀ i, i < n → zwf G1 i := fun i hi => zwf_same (s1 1 (by decide)) (s1 2 (by decide)) (s1 3 (by decide)) (s1 4 (by decide)) (hw i hi)
  have loop2 : ∀ (N k : Nat) (e : Int32) (G : Nat → Nat → Int32), k ≤ L → L < k + N → zRI G1 k e G → zG Z (wX h0 ad cs) 40 [(2, .int (nI k)), (1, .int e), (0, .ref h0)] [] G := by
    intro N
    induction N with
    | zero => intro k e G h1 h2; exact absurd h2 (by omega)
    | succ N ih =>
      intro k e G hk hN hI
      refine z_iload_n 40 41 K 0 dX0_run_40 rfl rfl rfl ?_
      refine z_aload_n 41 42 K 2 dX0_run_41 rfl rfl rfl ?_
      refine xg_15 42 45 K dX0_run_42 rfl ?_
      refine z_icmp_geN 45 48 69 K k L rfl (by rw [hI.1 15 (by decide)]; exact hL) (by omega) (by omega) dX0_run_45 rfl (by decide) (fun c45 => ?_) (fun c45 => ?_)
      · refine z_aload_n 69 70 K 2 dX0_run_69 rfl rfl rfl ?_
        refine z_iload_n 70 71 K 1 dX0_run_70 rfl rfl rfl ?_
        refine z_if_ge 71 74 78 K dX0_run_71 rfl (by decide) (fun c71 => ?_) (fun c71 => ?_)
        · refine z_iload_n 78 79 K 1 dX0_run_78 rfl rfl rfl ?_
          refine xp_9 79 82 K dX0_run_79 rfl ?_
          refine z_aload_n 82 83 K 2 dX0_run_82 rfl rfl rfl ?_
          refine xg_9 83 86 K dX0_run_83 rfl ?_
          exact z_iret K E 86 dX0_run_86 rfl (by have q := zRun_end h14 hw s1 s3 o1 o2 o3 o4 hI hk (Or.inl c45); rw [zend_p c71] at q; exact q)
        · refine z_iconst 74 75 K 0 dX0_run_74 rfl (by decide) ?_
          refine z_goto 75 79 K dX0_run_75 (by decide) ?_
          refine xp_9 79 82 K dX0_run_79 rfl ?_
          refine z_aload_n 82 83 K 2 dX0_run_82 rfl rfl rfl ?_
          refine xg_9 83 86 K dX0_run_83 rfl ?_
          exact z_iret K E 86 dX0_run_86 rfl (by have q := zRun_end h14 hw s1 s3 o1 o2 o3 o4 hI hk (Or.inl c45); rw [zend_n (zle_of c71)] at q; exact q)
      · refine z_iload_n 48 49 K 1 dX0_run_48 rfl rfl rfl ?_
        refine z_if_ge 49 52 69 K dX0_run_49 rfl (by decide) (fun c49 => ?_) (fun c49 => ?_)
        · refine z_aload_n 69 70 K 2 dX0_run_69 rfl rfl rfl ?_
          refine z_iload_n 70 71 K 1 dX0_run_70 rfl rfl rfl ?_
          refine z_if_ge 71 74 78 K dX0_run_71 rfl (by decide) (fun c71 => ?_) (fun c71 => ?_)
          · refine z_iload_n 78 79 K 1 dX0_run_78 rfl rfl rfl ?_
            refine xp_9 79 82 K dX0_run_79 rfl ?_
            refine z_aload_n 82 83 K 2 dX0_run_82 rfl rfl rfl ?_
            refine xg_9 83 86 K dX0_run_83 rfl ?_
            exact z_iret K E 86 dX0_run_86 rfl (by have q := zRun_end h14 hw s1 s3 o1 o2 o3 o4 hI hk (Or.inr c49); rw [zend_p c71] at q; exact q)
          · refine z_iconst 74 75 K 0 dX0_run_74 rfl (by decide) ?_
            refine z_goto 75 79 K dX0_run_75 (by decide) ?_
            refine xp_9 79 82 K dX0_run_79 rfl ?_
            refine z_aload_n 82 83 K 2 dX0_run_82 rfl rfl rfl ?_
            refine xg_9 83 86 K dX0_run_83 rfl ?_
            exact z_iret K E 86 dX0_run_86 rfl (by have q := zRun_end h14 hw s1 s3 o1 o2 o3 o4 hI hk (Or.inr c49); rw [zend_n (zle_of c71)] at q; exact q)
        · refine z_aload_n 52 53 K 2 dX0_run_52 rfl rfl rfl ?_
          refine z_aload_n 53 54 K 2 dX0_run_53 rfl rfl rfl ?_
          refine xg_16 54 57 K dX0_run_54 rfl ?_
          refine z_iload_n 57 58 K 0 dX0_run_57 rfl rfl rfl ?_
          refine xl_16 58 59 K k rfl (by omega) dX0_run_58 rfl ?_
          obtain ⟨b, hb28, hb, hu⟩ := o1 k c45
          refine z_top 59 (nI b) (by rw [hI.1 16 (by decide)]; exact hb) ?_
          refine z_calli (ci := 0) (q := (RX0, TX0, 23)) 59 62 1 K (m_exec (zl Z) (zD Z) h0 ad cs _ (zex G1 k) b (zRI_pre h14 hw1 o2 o5 c45 hb hu hI) hI.2.1 hI.2.2.1) (lw_V q226 q228 qs15 q28 q229) (by decide +kernel) ⟨by decide, by decide⟩ rfl rfl rfl rfl (Nat.le_of_ble_eq_true rfl) dX0_run_59 rfl (fun r59 G59 h59 => ?_)
          refine z_istore_n 62 63 K [(1, .int r59), (2, .int (nI k)), (0, .ref h0)] dX0_run_62 rfl rfl (by decide) rfl ?_
          refine z_iinc 63 66 K [(2, .int (nI (k + 1))), (1, .int r59), (0, .ref h0)] 1 dX0_run_63 rfl rfl (nI_1 _) (by decide) rfl ?_
          refine z_goto 66 40 K dX0_run_66 (by decide) ?_
          exact z_lv [0, 1, 2] rfl (ih (k + 1) _ _ (by omega) (by omega) (zRI_step hw1 hb28 hb hu hI c49 h59))
  have loop1 : ∀ (N i : Nat) (G : Nat → Nat → Int32), i ≤ 4 → 4 < i + N → zsame [20, 21, 22] G1 G → G 20 0 = nI 0 → (∀ w, w < i → G 21 w = -1) → zG Z (wX h0 ad cs) 11 [(1, .int (nI i)), (0, .ref h0)] [] G := by
    intro N
    induction N with
    | zero => intro i G h1 h2; exact absurd h2 (by omega)
    | succ N ih =>
      intro i G hi hN hs hv ha
      refine z_iload_n 11 12 K 0 dX0_run_11 rfl rfl rfl ?_
      refine z_iconst 12 13 K 4 dX0_run_12 rfl (by decide) ?_
      refine z_icmp_geN 13 16 36 K i 4 rfl rfl (by omega) (by omega) dX0_run_13 rfl (by decide) (fun c13 => ?_) (fun c13 => ?_)
      · refine z_iconst 36 37 K (-1) dX0_run_36 rfl (by decide) ?_
        refine z_istore_n 37 38 K [(1, .int (-1)), (0, .ref h0)] dX0_run_37 rfl rfl (by decide) rfl ?_
        refine z_iconst 38 39 K (nI 0) dX0_run_38 rfl (by decide) ?_
        refine z_istore_n 39 40 K [(2, .int (nI 0)), (1, .int (-1)), (0, .ref h0)] dX0_run_39 rfl rfl (by decide) rfl ?_
        obtain rfl : i = 4 := by omega
        exact z_lv [0, 1, 2] rfl (loop2 (L + 1) 0 _ _ (by omega) (by omega) ⟨zsame_up hs (by decide), ⟨0, by omega, hv⟩, fun w h4 => Or.inl (ha w h4), by rw [hs 6 (by decide), hs 7 (by decide)]; rfl, Or.inl rfl⟩)
      · refine z_aload_n 16 17 K 1 dX0_run_16 rfl rfl rfl ?_
        refine xg_21 17 20 K dX0_run_17 rfl ?_
        refine z_iload_n 20 21 K 0 dX0_run_20 rfl rfl rfl ?_
        refine z_iconst 21 22 K (-1) dX0_run_21 rfl (by decide) ?_
        refine xs_21 22 23 K i rfl (by omega) dX0_run_22 rfl ?_
        refine z_aload_n 23 24 K 1 dX0_run_23 rfl rfl rfl ?_
        refine xg_22 24 27 K dX0_run_24 rfl ?_
        refine z_iload_n 27 28 K 0 dX0_run_27 rfl rfl rfl ?_
        refine z_iconst 28 29 K (-1) dX0_run_28 rfl (by decide) ?_
        refine xs_22 29 30 K i rfl (by omega) dX0_run_29 rfl ?_
        refine z_iinc 30 33 K [(1, .int (nI (i + 1))), (0, .ref h0)] 0 dX0_run_30 rfl rfl (nI_1 _) (by decide) rfl ?_
        refine z_goto 33 11 K dX0_run_33 (by decide) ?_
        exact z_lv [0, 1] rfl (ih (i + 1) _ (by omega) (by omega) (zsame_put (zsame_put hs (by decide)) (by decide)) hv (lt_s (fun w h4 => by show upd (G 21) i (-1) w = -1; rw [pk_un (by omega)]; exact ha w h4) (by show upd (G 21) i (-1) i = -1; exact pk_us)))
  refine z_aload_n 4 5 K 0 dX0_run_4 rfl rfl rfl ?_
  refine z_iconst 5 6 K (nI 0) dX0_run_5 rfl (by decide) ?_
  refine xp_20 6 9 K dX0_run_6 rfl ?_
  refine z_iconst 9 10 K (nI 0) dX0_run_9 rfl (by decide) ?_
  refine z_istore_n 10 11 K [(1, .int (nI 0)), (0, .ref h0)] dX0_run_10 rfl rfl (by decide) rfl ?_
  exact z_lv [0, 1] rfl (loop1 5 0 _ (by omega) (by omega) (zsame_put (zsame_rf _ _) (by decide)) rfl (fun w h4 => absurd h4 (by omega)))

set_option maxHeartbeats 4000000 in
set_option maxRecDepth 100000 in
theorem m_repeat (l : Launch) (D : va_G) (h0 : Nat) (ad : Nat → Nat) (cs : Nat → ClassId) (F : Nat → Nat → Int32) (n : Nat) (hn : F 0 0 = nI n) (h14 : n ≤ 14) (hw : ∀ i, i < n → zwf F i) (hr : ¬ F 10 0 = 0 → zSch F n) (x : Int32) : MI l yX0_repeat cX0_repeat 7 .int 5 113 D (tyX cs) (wX h0 ad cs) [.ref h0, .int x] F (fun r F' => zRep F n (zc8 x) r F') := by
  refine MI_start [(0, .ref h0), (1, .int x)] (by decide) (Nat.le_of_ble_eq_true rfl) rfl ?_
  intro Z K E
  have h8 := zc8_le x
  have loop : ∀ (N i : Nat) (on : Int32) (G : Nat → Nat → Int32), i ≤ zc8 x → zc8 x < i + N → zRpI F n (zc8 x) i on G → zG Z (wX h0 ad cs) 25 [(5, .int (nI i)), (4, .int on), (3, .int (nI i)), (2, .int (nI (zc8 x))), (0, .ref h0), (1, .int x)] [] G := by
    intro N
    induction N with
    | zero => intro i on G h1 h2; exact absurd h2 (by omega)
    | succ N ih =>
      intro i on G hi hN hI
      refine z_iload 25 27 K 0 dX0_repeat_25 rfl rfl ?_
      refine z_iload_n 27 28 K 3 dX0_repeat_27 rfl rfl rfl ?_
      refine z_icmp_geN 28 31 63 K i (zc8 x) rfl rfl (by omega) (by omega) dX0_repeat_28 rfl (by decide) (fun c28 => ?_) (fun c28 => ?_)
      · refine z_iload_n 63 64 K 2 dX0_repeat_63 rfl rfl rfl ?_
        exact z_iret K E 64 dX0_repeat_64 rfl (zRpI_end hI (Or.inl c28))
      · refine z_iload 31 33 K 1 dX0_repeat_31 rfl rfl ?_
        refine z_if_eq 33 36 63 K dX0_repeat_33 rfl (by decide) (fun c33 => ?_) (fun c33 => ?_)
        · refine z_iload_n 63 64 K 2 dX0_repeat_63 rfl rfl rfl ?_
          exact z_iret K E 64 dX0_repeat_64 rfl (zRpI_end hI (Or.inr c33))
        · refine z_aload_n 36 37 K 4 dX0_repeat_36 rfl rfl rfl ?_
          refine z_calli (ci := 0) (q := (RX0, TX0, 23)) 37 40 0 K (m_run (zl Z) (zD Z) h0 ad cs _ n ((congrFun (hI.1 0 (by decide)) 0).trans hn) h14 (fun i hi => zwf_same (hI.1 1 (by decide)) (hI.1 2 (by decide)) (hI.1 3 (by decide)) (hI.1 4 (by decide)) (hw i hi)) hI.2.1) (lw_V q266 q175 q176 q28 q177) (by decide +kernel) ⟨by decide, by decide⟩ rfl rfl rfl rfl (Nat.le_of_ble_eq_true rfl) dX0_repeat_37 rfl (fun r37 G37 h37 => ?_)
          refine z_istore 40 42 K [(6, .int r37), (5, .int (nI i)), (4, .int on), (3, .int (nI i)), (2, .int (nI (zc8 x))), (0, .ref h0), (1, .int x)] dX0_repeat_40 rfl (by decide) rfl ?_
          refine z_iinc 42 45 K [(3, .int (nI (i + 1))), (6, .int r37), (5, .int (nI i)), (4, .int on), (2, .int (nI (zc8 x))), (0, .ref h0), (1, .int x)] 3 dX0_repeat_42 rfl rfl (nI_1 _) (by decide) rfl ?_
          refine z_iload 45 47 K 1 dX0_repeat_45 rfl rfl ?_
          refine z_if_ne 47 50 54 K dX0_repeat_47 rfl (by decide) (fun c47 => ?_) (fun c47 => ?_)
          · refine z_iconst 54 55 K 0 dX0_repeat_54 rfl (by decide) ?_
            refine z_istore 55 57 K [(4, .int 0), (3, .int (nI (i + 1))), (6, .int r37), (5, .int (nI i)), (2, .int (nI (zc8 x))), (0, .ref h0), (1, .int x)] dX0_repeat_55 rfl (by decide) rfl ?_
            refine z_iinc 57 60 K [(5, .int (nI (i + 1))), (4, .int 0), (3, .int (nI (i + 1))), (6, .int r37), (2, .int (nI (zc8 x))), (0, .ref h0), (1, .int x)] 3 dX0_repeat_57 rfl rfl (nI_1 _) (by decide) rfl ?_
            refine z_goto 60 25 K dX0_repeat_60 (by decide) ?_
            exact z_lv [0, 1, 2, 4, 5, 6] rfl (ih (i + 1) _ _ (by omega) (by omega) (zRpI_stop hI c28 c33 h37 c47))
          · refine z_iconst 50 51 K 1 dX0_repeat_50 rfl (by decide) ?_
            refine z_goto 51 55 K dX0_repeat_51 (by decide) ?_
            refine z_istore 55 57 K [(4, .int 1), (3, .int (nI (i + 1))), (6, .int r37), (5, .int (nI i)), (2, .int (nI (zc8 x))), (0, .ref h0), (1, .int x)] dX0_repeat_55 rfl (by decide) rfl ?_
            refine z_iinc 57 60 K [(5, .int (nI (i + 1))), (4, .int 1), (3, .int (nI (i + 1))), (6, .int r37), (2, .int (nI (zc8 x))), (0, .ref h0), (1, .int x)] 3 dX0_repeat_57 rfl rfl (nI_1 _) (by decide) rfl ?_
            refine z_goto 60 25 K dX0_repeat_60 (by decide) ?_
            exact z_lv [0, 1, 2, 4, 5, 6] rfl (ih (i + 1) _ _ (by omega) (by omega) (zRpI_go hI c28 c33 h37 c47))
  have main : ∀ tv : Int32, tv = nI (zc8 x) → zG Z (wX h0 ad cs) 17 [(2, .int tv), (0, .ref h0), (1, .int x)] [] F := by
    intro tv htv
    subst htv
    refine z_iconst 17 18 K (nI 0) dX0_repeat_17 rfl (by decide) ?_
    refine z_istore_n 18 19 K [(3, .int (nI 0)), (2, .int (nI (zc8 x))), (0, .ref h0), (1, .int x)] dX0_repeat_18 rfl rfl (by decide) rfl ?_
    refine z_iconst 19 20 K 1 dX0_repeat_19 rfl (by decide) ?_
    refine z_istore 20 22 K [(4, .int 1), (3, .int (nI 0)), (2, .int (nI (zc8 x))), (0, .ref h0), (1, .int x)] dX0_repeat_20 rfl (by decide) rfl ?_
    refine z_iconst 22 23 K (nI 0) dX0_repeat_22 rfl (by decide) ?_
    refine z_istore 23 25 K [(5, .int (nI 0)), (4, .int 1), (3, .int (nI 0)), (2, .int (nI (zc8 x))), (0, .ref h0), (1, .int x)] dX0_repeat_23 rfl (by decide) rfl ?_
    exact z_lv [0, 1, 2, 3, 4, 5] rfl (loop (zc8 x + 1) 0 _ _ (by omega) (by omega) ⟨zsame_rf _ _, hr, Or.inr ⟨rfl, by rw [Nat.sub_zero, Nat.zero_add]⟩⟩)
  refine z_iload_n 0 1 K 1 dX0_repeat_0 rfl rfl rfl ?_
  refine z_istore_n 1 2 K [(2, .int x), (0, .ref h0), (1, .int x)] dX0_repeat_1 rfl rfl (by decide) rfl ?_
  refine z_iload_n 2 3 K 0 dX0_repeat_2 rfl rfl rfl ?_
  refine z_if_ge 3 6 8 K dX0_repeat_3 rfl (by decide) (fun c3 => ?_) (fun c3 => ?_)
  · refine z_iload_n 8 9 K 0 dX0_repeat_8 rfl rfl rfl ?_
    refine z_bipush 9 11 K 8 dX0_repeat_9 rfl (by decide) ?_
    refine z_icmp_le 11 14 17 K dX0_repeat_11 rfl (by decide) (fun c11 => ?_) (fun c11 => ?_)
    · exact z_lv [0, 1, 2] rfl (main _ (zc8_m (zlt_not c3) c11))
    · refine z_bipush 14 16 K 8 dX0_repeat_14 rfl (by decide) ?_
      refine z_istore_n 16 17 K [(2, .int 8), (0, .ref h0), (1, .int x)] dX0_repeat_16 rfl rfl (by decide) rfl ?_
      exact z_lv [0, 1, 2] rfl (main _ (zc8_b (zlt_not c3) c11))
  · refine z_iconst 6 7 K 0 dX0_repeat_6 rfl (by decide) ?_
    refine z_istore_n 7 8 K [(2, .int 0), (0, .ref h0), (1, .int x)] dX0_repeat_7 rfl rfl (by decide) rfl ?_
    refine z_iload_n 8 9 K 0 dX0_repeat_8 rfl rfl rfl ?_
    refine z_bipush 9 11 K 8 dX0_repeat_9 rfl (by decide) ?_
    refine z_icmp_le 11 14 17 K dX0_repeat_11 rfl (by decide) (fun c11 => ?_) (fun c11 => ?_)
    · exact z_lv [0, 1, 2] rfl (main _ (zc8_n (zle_of c3)))
    · exact absurd c11 (by decide)
end
section
/-! words and plain laws of the reference's run -/
/-- instruction i of the reference M is instruction i of the program P -/
def zrel (P M : Nat → Nat → Int32) (i : Nat) : Prop :=
  (P 1 i = 0 ∧ M 0 i = 0 ∧ M 1 i = P 2 i ∧ M 2 i = P 5 i) ∨ (P 1 i = 1 ∧ M 0 i = 1 ∧ M 1 i = P 2 i ∧ M 2 i = P 3 i ∧ M 3 i = P 4 i) ∨ (P 1 i = 2 ∧ M 0 i = 2 ∧ M 1 i = P 2 i ∧ M 2 i = P 3 i ∧ M 3 i = P 4 i) ∨
  (P 1 i = 3 ∧ M 0 i = 3 ∧ M 1 i = P 2 i ∧ M 2 i = P 3 i ∧ M 3 i = P 5 i) ∨ (P 1 i = 4 ∧ M 0 i = 4 ∧ M 1 i = P 3 i ∧ M 2 i = P 5 i ∧ M 3 i = P 4 i) ∨ (P 1 i = 5 ∧ M 0 i = 5 ∧ M 1 i = P 3 i)
section RL
variable {P M : Nat → Nat → Int32} {i : Nat}
theorem zrel_0 (h : zrel P M i) (c : M 0 i = 0) : P 1 i = 0 ∧ M 1 i = P 2 i ∧ M 2 i = P 5 i := by
  rcases h with ⟨h1, h2, h3⟩ | ⟨h1, h2, h3⟩ | ⟨h1, h2, h3⟩ | ⟨h1, h2, h3⟩ | ⟨h1, h2, h3⟩ | ⟨h1, h2, h3⟩ <;> first | exact ⟨h1, h3⟩ | (rw [h2] at c; exact absurd c (by decide))
theorem zrel_1 (h : zrel P M i) (c : M 0 i = 1) : P 1 i = 1 ∧ M 1 i = P 2 i ∧ M 2 i = P 3 i ∧ M 3 i = P 4 i := by
  rcases h with ⟨h1, h2, h3⟩ | ⟨h1, h2, h3⟩ | ⟨h1, h2, h3⟩ | ⟨h1, h2, h3⟩ | ⟨h1, h2, h3⟩ | ⟨h1, h2, h3⟩ <;> first | exact ⟨h1, h3⟩ | (rw [h2] at c; exact absurd c (by decide))
theorem zrel_2 (h : zrel P M i) (c : M 0 i = 2) : P 1 i = 2 ∧ M 1 i = P 2 i ∧ M 2 i = P 3 i ∧ M 3 i = P 4 i := by
  rcases h with ⟨h1, h2, h3⟩ | ⟨h1, h2, h3⟩ | ⟨h1, h2, h3⟩ | ⟨h1, h2, h3⟩ | ⟨h1, h2, h3⟩ | ⟨h1, h2, h3⟩ <;> first | exact ⟨h1, h3⟩ | (rw [h2] at c; exact absurd c (by decide))
theorem zrel_3 (h : zrel P M i) (c : M 0 i = 3) : P 1 i = 3 ∧ M 1 i = P 2 i ∧ M 2 i = P 3 i ∧ M 3 i = P 5 i := by
  rcases h with ⟨h1, h2, h3⟩ | ⟨h1, h2, h3⟩ | ⟨h1, h2, h3⟩ | ⟨h1, h2, h3⟩ | ⟨h1, h2, h3⟩ | ⟨h1, h2, h3⟩ <;> first | exact ⟨h1, h3⟩ | (rw [h2] at c; exact absurd c (by decide))
theorem zrel_5 (h : zrel P M i) (c : M 0 i = 5) : P 1 i = 5 ∧ M 1 i = P 3 i := by
  rcases h with ⟨h1, h2, h3⟩ | ⟨h1, h2, h3⟩ | ⟨h1, h2, h3⟩ | ⟨h1, h2, h3⟩ | ⟨h1, h2, h3⟩ | ⟨h1, h2, h3⟩ <;> first | exact ⟨h1, h3⟩ | (rw [h2] at c; exact absurd c (by decide))
theorem zrel_4 (h : zrel P M i) (c0 : ¬ M 0 i = 0) (c1 : ¬ M 0 i = 1) (c2 : ¬ M 0 i = 2) (c5 : ¬ M 0 i = 5) (c3 : ¬ M 0 i = 3) : P 1 i = 4 ∧ M 1 i = P 3 i ∧ M 2 i = P 5 i ∧ M 3 i = P 4 i := by
  rcases h with ⟨h1, h2, h3⟩ | ⟨h1, h2, h3⟩ | ⟨h1, h2, h3⟩ | ⟨h1, h2, h3⟩ | ⟨h1, h2, h3⟩ | ⟨h1, h2, h3⟩
  · exact absurd h2 c0
  · exact absurd h2 c1
  · exact absurd h2 c2
  · exact absurd h2 c3
  · exact ⟨h1, h3⟩
  · exact absurd h2 c5
end RL
theorem zwf_12 {P : Nat → Nat → Int32} {i : Nat} (h : zwf P i) (e : P 1 i = 1 ∨ P 1 i = 2) : vp_in (P 2 i) 8 ∧ vp_in (P 3 i) 8 ∧ vp_in (P 4 i) 8 :=
  (zwf_1 h (by rcases e with e | e <;> rw [e] <;> decide) (by rcases e with e | e <;> rw [e] <;> decide) (by rcases e with e | e <;> rw [e] <;> decide) (by rcases e with e | e <;> rw [e] <;> decide)).2
/-- what the reference's execute answers and leaves -/
def zMx (P : Nat → Nat → Int32) (i : Nat) (M : Nat → Nat → Int32) (r : Int32) (M' : Nat → Nat → Int32) : Prop := zsame [5, 6] M M' ∧ ∃ e, zxs P i (M 5) (M 6) = (e, M' 5, M' 6) ∧ ((e = -1 ∧ r = 0) ∨ ∃ c, (c = 1 ∨ c = 2) ∧ r = nI c ∧ e = nI (c + 4 * i))
/-- its run's loop, i instructions done -/
def zMI (P : Nat → Nat → Int32) (M : Nat → Nat → Int32) (i : Nat) (G : Nat → Nat → Int32) : Prop := zsame [5, 6, 8] M G ∧ ∃ e, zfold P (List.range' 0 i) (-1, M 5, M 6) = (e, G 5, G 6) ∧ (e = -1 ∨ 0 < e) ∧ G 8 0 = zend e
def zMRun (P : Nat → Nat → Int32) (M : Nat → Nat → Int32) (n : Nat) (r : Int32) (M' : Nat → Nat → Int32) : Prop := zsame [5, 6, 8] M M' ∧ M' 8 0 = r ∧ ∃ e, zfold P (List.range' 0 n) (-1, M 5, M 6) = (e, M' 5, M' 6) ∧ r = zend e
theorem zpos_of {e : Int32} (h : e = -1 ∨ 0 < e) (h0 : ¬ zend e = 0) : 0 < e := by
  rcases h with h | h
  · rw [h] at h0; exact absurd (by decide) h0
  · exact h
theorem zend_0 {e : Int32} (h : e = -1 ∨ 0 < e) (h0 : zend e = 0) : e = -1 := by
  rcases h with h | h
  · exact h
  · have hp : 0 ≤ e := by rw [Int32.lt_iff_toInt_lt] at h; rw [Int32.le_iff_toInt_le]; omega
    rw [zend_p hp] at h0
    rw [h0] at h; exact absurd h (by decide)
theorem zrange_s (i : Nat) : List.range' 0 (i + 1) = List.range' 0 i ++ [i] := by
  rw [List.range'_1_concat, Nat.zero_add]
theorem zrange_end {P : Nat → Nat → Int32} {k : Nat} {s t : zS3} (h : zfold P (List.range' 0 k) s = t) (ht : ¬ t.1 < 0) : ∀ m, zfold P (List.range' 0 (k + m)) s = t := by
  intro m
  induction m with
  | zero => exact h
  | succ m ih => rw [← Nat.add_assoc, zrange_s, zfold_app, ih, zfold_end ht]
theorem zMI_end {P M G : Nat → Nat → Int32} {n i : Nat} (h : zMI P M i G) (hi : i ≤ n) (hx : n ≤ i ∨ ¬ G 8 0 = 0) : zMRun P M n (G 8 0) G := by
  obtain ⟨s, e, h1, h2, h3⟩ := h
  refine ⟨s, rfl, e, ?_, h3⟩
  rcases hx with q | q
  · rw [show n = i by omega]; exact h1
  · rw [h3] at q
    obtain ⟨m, rfl⟩ : ∃ m, n = i + m := ⟨n - i, by omega⟩
    have hp := zpos_of h2 q
    exact zrange_end h1 (by show ¬ e < 0; rw [Int32.lt_iff_toInt_lt] at hp ⊢; omega) m
theorem zMI_go {P M G G' : Nat → Nat → Int32} {i : Nat} {r : Int32} (h : zMI P M i G) (h0 : G 8 0 = 0) (hx : zMx P i G r G') (hr : r = 0) : zMI P M (i + 1) G' := by
  obtain ⟨s, e, h1, h2, h3⟩ := h
  rw [h0] at h3
  have e1 := zend_0 h2 h3.symm
  subst e1
  obtain ⟨s2, e2, x1, x2⟩ := hx
  rcases x2 with ⟨rfl, -⟩ | ⟨c, hc, x3, -⟩
  · refine ⟨zsame_tr s (zsame_up s2 (by decide)), -1, ?_, Or.inl rfl, ?_⟩
    · rw [zrange_s, zfold_app, h1, zfold_cons, zfold_nil, zstep_go, x1]
    · rw [s2 8 (by decide), h0]; rfl
  · rw [hr] at x3
    rcases hc with rfl | rfl <;> exact absurd x3 (by decide)
theorem zMI_stop {P M G G' : Nat → Nat → Int32} {i : Nat} {r v : Int32} (hi : i < 14) (h : zMI P M i G) (h0 : G 8 0 = 0) (hx : zMx P i G r G') (hr : ¬ r = 0) (hv : v = r + nI (4 * i)) : zMI P M (i + 1) (zput G' 8 (fun _ => v)) := by
  obtain ⟨s, e, h1, h2, h3⟩ := h
  rw [h0] at h3
  have e1 := zend_0 h2 h3.symm
  subst e1
  obtain ⟨s2, e2, x1, x2⟩ := hx
  rcases x2 with ⟨-, x2⟩ | ⟨c, hc, x3, x4⟩
  · exact absurd x2 hr
  · have hp : 0 < e2 := by rw [x4, ← nI_0]; exact nI_lt (by omega) (by omega)
    refine ⟨zsame_put (zsame_tr s (zsame_up s2 (by decide))) (by decide), e2, ?_, Or.inr hp, ?_⟩
    · rw [zrange_s, zfold_app, h1, zfold_cons, zfold_nil, zstep_go, x1]; rfl
    · show v = zend e2
      rw [zend_p (by rw [Int32.lt_iff_toInt_lt] at hp; rw [Int32.le_iff_toInt_le]; omega), hv, x3, x4, nI_add]
def zMRep (P : Nat → Nat → Int32) (M : Nat → Nat → Int32) (n T : Nat) (r : Int32) (M' : Nat → Nat → Int32) : Prop := zsame [5, 6, 8] M M' ∧ ∃ q, zrp P n T (M 8 0) (M 5) (M 6) = (q, M' 8 0, M' 5, M' 6) ∧ r = nI q
def zMpI (P : Nat → Nat → Int32) (M : Nat → Nat → Int32) (n T i : Nat) (e : Int32) (G : Nat → Nat → Int32) : Prop := zsame [5, 6, 8] M G ∧ ((¬ e = 0 ∧ zrp P n T (M 8 0) (M 5) (M 6) = (i, G 8 0, G 5, G 6)) ∨ (e = 0 ∧ zrp P n T (M 8 0) (M 5) (M 6) = (i + (zrp P n (T - i) (G 8 0) (G 5) (G 6)).1, (zrp P n (T - i) (G 8 0) (G 5) (G 6)).2)))
theorem zMpI_end {P M G : Nat → Nat → Int32} {n T i : Nat} {e : Int32} (h : zMpI P M n T i e G) (hx : T ≤ i ∨ ¬ e = 0) : zMRep P M n T (nI i) G := by
  obtain ⟨h1, h3⟩ := h
  refine ⟨h1, i, ?_, rfl⟩
  rcases h3 with ⟨-, h3⟩ | ⟨ho, h3⟩
  · exact h3
  · rcases hx with q | q
    · rw [show T - i = 0 by omega, zrp_0] at h3
      exact h3
    · exact absurd ho q
theorem zMpI_step {P M G G' : Nat → Nat → Int32} {n T i : Nat} {e r : Int32} (h : zMpI P M n T i e G) (hi : i < T) (ho : e = 0) (hr : zMRun P G n r G') : zMpI P M n T (i + 1) r G' := by
  obtain ⟨h1, h3⟩ := h
  obtain ⟨r1, r3, e2, r4, r5⟩ := hr
  refine ⟨zsame_tr h1 r1, ?_⟩
  rcases h3 with ⟨h3, -⟩ | ⟨-, h3⟩
  · exact absurd ho h3
  · by_cases q : r = 0
    · refine Or.inr ⟨q, ?_⟩
      rw [show T - i = (T - (i + 1)) + 1 by omega, zrp_go r4 (by rw [← r5]; exact q)] at h3
      rw [h3, r3, q, Nat.add_assoc]
    · refine Or.inl ⟨q, ?_⟩
      rw [show T - i = (T - (i + 1)) + 1 by omega, zrp_end r4 (by rw [← r5]; exact q)] at h3
      rw [h3, r3, ← r5]
end
section
/-! contracts of the reference: execute, run, repeat (printed by gen7.py) -/
set_option maxRecDepth 100000
set_option maxHeartbeats 4000000 in
set_option maxRecDepth 100000 in
theorem n_execute (l : Launch) (D : va_G) (h0 : Nat) (ad : Nat → Nat) (cs : Nat → ClassId) (F : Nat → Nat → Int32) (P : Nat → Nat → Int32) (i : Nat) (hi : i < 14) (hw : zwf P i) (hr : zrel P F i) (h8 : F 7 = P 8) : MI l yX1_execute cX1_execute 6 .int 1 21 D (tyM cs) (wM h0 ad cs) [.ref h0, .int (nI i)] F (fun r F' => zMx P i F r F') := by
  refine MI_start [(0, .ref h0), (1, .int (nI i))] (by decide) (Nat.le_of_ble_eq_true rfl) rfl ?_
  intro Z K E
  refine z_aload_n 0 1 K 0 dX1_execute_0 rfl rfl rfl ?_
  refine yg_1 1 4 K dX1_execute_1 rfl ?_
  refine z_iload_n 4 5 K 1 dX1_execute_4 rfl rfl rfl ?_
  refine yl_1 5 6 K i rfl (by omega) dX1_execute_5 rfl ?_
  refine z_istore_n 6 7 K [(2, .int (F 1 i)), (0, .ref h0), (1, .int (nI i))] dX1_execute_6 rfl rfl (by decide) rfl ?_
  refine z_aload_n 7 8 K 1 dX1_execute_7 rfl rfl rfl ?_
  refine yg_2 8 11 K dX1_execute_8 rfl ?_
  refine z_iload_n 11 12 K 2 dX1_execute_11 rfl rfl rfl ?_
  refine yl_2 12 13 K i rfl (by omega) dX1_execute_12 rfl ?_
  refine z_istore_n 13 14 K [(3, .int (F 2 i)), (2, .int (F 1 i)), (0, .ref h0), (1, .int (nI i))] dX1_execute_13 rfl rfl (by decide) rfl ?_
  refine z_aload_n 14 15 K 2 dX1_execute_14 rfl rfl rfl ?_
  refine yg_3 15 18 K dX1_execute_15 rfl ?_
  refine z_iload_n 18 19 K 3 dX1_execute_18 rfl rfl rfl ?_
  refine yl_3 19 20 K i rfl (by omega) dX1_execute_19 rfl ?_
  refine z_istore 20 22 K [(4, .int (F 3 i)), (3, .int (F 2 i)), (2, .int (F 1 i)), (0, .ref h0), (1, .int (nI i))] dX1_execute_20 rfl (by decide) rfl ?_
  refine z_aload_n 22 23 K 3 dX1_execute_22 rfl rfl rfl ?_
  refine yg_0 23 26 K dX1_execute_23 rfl ?_
  refine z_iload_n 26 27 K 4 dX1_execute_26 rfl rfl rfl ?_
  refine yl_0 27 28 K i rfl (by omega) dX1_execute_27 rfl ?_
  refine z_if_ne 28 31 40 K dX1_execute_28 rfl (by decide) (fun c28 => ?_) (fun c28 => ?_)
  · refine z_aload_n 40 41 K 3 dX1_execute_40 rfl rfl rfl ?_
    refine yg_0 41 44 K dX1_execute_41 rfl ?_
    refine z_iload_n 44 45 K 4 dX1_execute_44 rfl rfl rfl ?_
    refine yl_0 45 46 K i rfl (by omega) dX1_execute_45 rfl ?_
    refine z_iconst 46 47 K 1 dX1_execute_46 rfl (by decide) ?_
    refine z_icmp_ne 47 50 72 K dX1_execute_47 rfl (by decide) (fun c47 => ?_) (fun c47 => ?_)
    · refine z_aload_n 72 73 K 3 dX1_execute_72 rfl rfl rfl ?_
      refine yg_0 73 76 K dX1_execute_73 rfl ?_
      refine z_iload_n 76 77 K 4 dX1_execute_76 rfl rfl rfl ?_
      refine yl_0 77 78 K i rfl (by omega) dX1_execute_77 rfl ?_
      refine z_iconst 78 79 K 2 dX1_execute_78 rfl (by decide) ?_
      refine z_icmp_ne 79 82 104 K dX1_execute_79 rfl (by decide) (fun c79 => ?_) (fun c79 => ?_)
      · refine z_aload_n 104 105 K 3 dX1_execute_104 rfl rfl rfl ?_
        refine yg_0 105 108 K dX1_execute_105 rfl ?_
        refine z_iload_n 108 109 K 4 dX1_execute_108 rfl rfl rfl ?_
        refine yl_0 109 110 K i rfl (by omega) dX1_execute_109 rfl ?_
        refine z_iconst 110 111 K 5 dX1_execute_110 rfl (by decide) ?_
        refine z_icmp_ne 111 114 129 K dX1_execute_111 rfl (by decide) (fun c111 => ?_) (fun c111 => ?_)
        · refine z_aload_n 129 130 K 3 dX1_execute_129 rfl rfl rfl ?_
          refine yg_0 130 133 K dX1_execute_130 rfl ?_
          refine z_iload_n 133 134 K 4 dX1_execute_133 rfl rfl rfl ?_
          refine yl_0 134 135 K i rfl (by omega) dX1_execute_134 rfl ?_
          refine z_iconst 135 136 K 3 dX1_execute_135 rfl (by decide) ?_
          refine z_icmp_ne 136 139 151 K dX1_execute_136 rfl (by decide) (fun c136 => ?_) (fun c136 => ?_)
          · obtain ⟨p1, ra, rb, rc⟩ := zrel_4 hr c28 c47 c79 c111 c136
            have ha : vp_in (F 1 i) 8 := by rw [ra]; exact (zwf_4 hw p1).1
            have hc : vp_in (F 3 i) 8 := by rw [rc]; exact (zwf_4 hw p1).2
            refine z_aload_n 151 152 K 3 dX1_execute_151 rfl rfl rfl ?_
            refine yg_5 152 155 K dX1_execute_152 rfl ?_
            refine z_iload_n 155 156 K 2 dX1_execute_155 rfl rfl rfl ?_
            refine yL_5 156 157 K ha dX1_execute_156 rfl ?_
            refine z_iload_n 157 158 K 1 dX1_execute_157 rfl rfl rfl ?_
            refine z_iadd 158 159 K dX1_execute_158 rfl ?_
            refine z_gen 159 (fun x ex => ?_)
            have ead : x = zad P i (F 5) := by unfold zad; rw [← ra, ← rb]; exact ex
            refine z_istore 159 161 K [(5, .int x), (4, .int (F 3 i)), (3, .int (F 2 i)), (2, .int (F 1 i)), (0, .ref h0), (1, .int (nI i))] dX1_execute_159 rfl (by decide) rfl ?_
            refine z_aload_n 161 162 K 4 dX1_execute_161 rfl rfl rfl ?_
            refine z_iload 162 164 K 0 dX1_execute_162 rfl rfl ?_
            refine z_calli (ci := 1) (q := (RX1, TX1, 9)) 164 167 1 K (n_isAddress (zl Z) (zD Z) h0 ad cs _ x) (lw_V q353 q355 qs25 q29 q356) (by decide +kernel) ⟨by decide, by decide⟩ rfl rfl rfl rfl (Nat.le_of_ble_eq_true rfl) dX1_execute_164 rfl (fun r164 G164 h164 => ?_)
            obtain ⟨h164, e9⟩ := h164
            replace e9 := e9.symm
            subst e9
            refine z_if_eq 167 170 180 K dX1_execute_167 rfl (by decide) (fun c167 => ?_) (fun c167 => ?_)
            · have k167 : zbadA x := Classical.not_not.mp (zB_0 h164 c167)
              refine z_iconst 180 181 K 2 dX1_execute_180 rfl (by decide) ?_
              exact z_iret K E 181 dX1_execute_181 rfl ⟨(by repeat' (first | exact zsame_rf _ _ | refine zsame_put ?_ (by decide))), nI (2 + 4 * i), zxs_stf p1 (by rw [← ead]; exact (Or.inl k167)), Or.inr ⟨2, Or.inr rfl, rfl, rfl⟩⟩
            · have k167 : ¬ zbadA x := zB_1 h164 c167
              refine z_aload_n 170 171 K 4 dX1_execute_170 rfl rfl rfl ?_
              refine yg_7 171 174 K dX1_execute_171 rfl ?_
              refine z_iload 174 176 K 0 dX1_execute_174 rfl rfl ?_
              refine yL_7 176 177 K (zbadA_in k167) dX1_execute_176 rfl ?_
              refine z_if_eq 177 180 182 K dX1_execute_177 rfl (by decide) (fun c177 => ?_) (fun c177 => ?_)
              · refine z_aload_n 182 183 K 4 dX1_execute_182 rfl rfl rfl ?_
                refine yg_0 183 186 K dX1_execute_183 rfl ?_
                refine z_iload_n 186 187 K 5 dX1_execute_186 rfl rfl rfl ?_
                refine yl_0 187 188 K i rfl (by omega) dX1_execute_187 rfl ?_
                refine z_iconst 188 189 K 3 dX1_execute_188 rfl (by decide) ?_
                refine z_icmp_ne 189 192 208 K dX1_execute_189 rfl (by decide) (fun c189 => ?_) (fun c189 => ?_)
                · refine z_aload_n 208 209 K 4 dX1_execute_208 rfl rfl rfl ?_
                  refine yg_6 209 212 K dX1_execute_209 rfl ?_
                  refine z_iload 212 214 K 0 dX1_execute_212 rfl rfl ?_
                  refine z_aload_n 214 215 K 4 dX1_execute_214 rfl rfl rfl ?_
                  refine yg_5 215 218 K dX1_execute_215 rfl ?_
                  refine z_iload 218 220 K 1 dX1_execute_218 rfl rfl ?_
                  refine yL_5 220 221 K hc dX1_execute_220 rfl ?_
                  refine yS_6 221 222 K (zbadA_in k167) dX1_execute_221 rfl ?_
                  refine z_iconst 222 223 K 0 dX1_execute_222 rfl (by decide) ?_
                  exact z_iret K E 223 dX1_execute_223 rfl ⟨(by repeat' (first | exact zsame_rf _ _ | refine zsame_put ?_ (by decide))), -1, by rw [zxs_st p1 (by rw [← ead]; exact (fun z => z.elim k167 (fun z => z (by rw [← h8]; exact c177)))), ← ead, ← rc]; rfl, Or.inl ⟨rfl, rfl⟩⟩
                · exact absurd c189 c136
              · refine z_iconst 180 181 K 2 dX1_execute_180 rfl (by decide) ?_
                exact z_iret K E 181 dX1_execute_181 rfl ⟨(by repeat' (first | exact zsame_rf _ _ | refine zsame_put ?_ (by decide))), nI (2 + 4 * i), zxs_stf p1 (by rw [← ead]; exact (Or.inr (by rw [← h8]; exact c177))), Or.inr ⟨2, Or.inr rfl, rfl, rfl⟩⟩
          · obtain ⟨p1, ra, rb, rc⟩ := zrel_3 hr c136
            have ha : vp_in (F 1 i) 8 := by rw [ra]; exact (zwf_3 hw p1).1
            have hb : vp_in (F 2 i) 8 := by rw [rb]; exact (zwf_3 hw p1).2
            refine z_aload_n 139 140 K 3 dX1_execute_139 rfl rfl rfl ?_
            refine yg_5 140 143 K dX1_execute_140 rfl ?_
            refine z_iload_n 143 144 K 1 dX1_execute_143 rfl rfl rfl ?_
            refine yL_5 144 145 K hb dX1_execute_144 rfl ?_
            refine z_iload 145 147 K 0 dX1_execute_145 rfl rfl ?_
            refine z_iadd 147 148 K dX1_execute_147 rfl ?_
            refine z_gen 148 (fun x ex => ?_)
            refine z_goto 148 159 K dX1_execute_148 (by decide) ?_
            have ead : x = zad P i (F 5) := by unfold zad; rw [← rb, ← rc]; exact ex
            refine z_istore 159 161 K [(5, .int x), (4, .int (F 3 i)), (3, .int (F 2 i)), (2, .int (F 1 i)), (0, .ref h0), (1, .int (nI i))] dX1_execute_159 rfl (by decide) rfl ?_
            refine z_aload_n 161 162 K 4 dX1_execute_161 rfl rfl rfl ?_
            refine z_iload 162 164 K 0 dX1_execute_162 rfl rfl ?_
            refine z_calli (ci := 1) (q := (RX1, TX1, 9)) 164 167 1 K (n_isAddress (zl Z) (zD Z) h0 ad cs _ x) (lw_V q353 q355 qs25 q29 q356) (by decide +kernel) ⟨by decide, by decide⟩ rfl rfl rfl rfl (Nat.le_of_ble_eq_true rfl) dX1_execute_164 rfl (fun r164 G164 h164 => ?_)
            obtain ⟨h164, e9⟩ := h164
            replace e9 := e9.symm
            subst e9
            refine z_if_eq 167 170 180 K dX1_execute_167 rfl (by decide) (fun c167 => ?_) (fun c167 => ?_)
            · have k167 : zbadA x := Classical.not_not.mp (zB_0 h164 c167)
              refine z_iconst 180 181 K 2 dX1_execute_180 rfl (by decide) ?_
              exact z_iret K E 181 dX1_execute_181 rfl ⟨(by repeat' (first | exact zsame_rf _ _ | refine zsame_put ?_ (by decide))), nI (2 + 4 * i), zxs_ldf p1 (by rw [← ead]; exact (Or.inl k167)), Or.inr ⟨2, Or.inr rfl, rfl, rfl⟩⟩
            · have k167 : ¬ zbadA x := zB_1 h164 c167
              refine z_aload_n 170 171 K 4 dX1_execute_170 rfl rfl rfl ?_
              refine yg_7 171 174 K dX1_execute_171 rfl ?_
              refine z_iload 174 176 K 0 dX1_execute_174 rfl rfl ?_
              refine yL_7 176 177 K (zbadA_in k167) dX1_execute_176 rfl ?_
              refine z_if_eq 177 180 182 K dX1_execute_177 rfl (by decide) (fun c177 => ?_) (fun c177 => ?_)
              · refine z_aload_n 182 183 K 4 dX1_execute_182 rfl rfl rfl ?_
                refine yg_0 183 186 K dX1_execute_183 rfl ?_
                refine z_iload_n 186 187 K 5 dX1_execute_186 rfl rfl rfl ?_
                refine yl_0 187 188 K i rfl (by omega) dX1_execute_187 rfl ?_
                refine z_iconst 188 189 K 3 dX1_execute_188 rfl (by decide) ?_
                refine z_icmp_ne 189 192 208 K dX1_execute_189 rfl (by decide) (fun c189 => ?_) (fun c189 => ?_)
                · exact absurd c136 c189
                · refine z_aload_n 192 193 K 4 dX1_execute_192 rfl rfl rfl ?_
                  refine yg_5 193 196 K dX1_execute_193 rfl ?_
                  refine z_iload_n 196 197 K 3 dX1_execute_196 rfl rfl rfl ?_
                  refine z_aload_n 197 198 K 4 dX1_execute_197 rfl rfl rfl ?_
                  refine yg_6 198 201 K dX1_execute_198 rfl ?_
                  refine z_iload 201 203 K 0 dX1_execute_201 rfl rfl ?_
                  refine yL_6 203 204 K (zbadA_in k167) dX1_execute_203 rfl ?_
                  refine yS_5 204 205 K ha dX1_execute_204 rfl ?_
                  refine z_goto 205 222 K dX1_execute_205 (by decide) ?_
                  refine z_iconst 222 223 K 0 dX1_execute_222 rfl (by decide) ?_
                  exact z_iret K E 223 dX1_execute_223 rfl ⟨(by repeat' (first | exact zsame_rf _ _ | refine zsame_put ?_ (by decide))), -1, by rw [zxs_ld p1 (by rw [← ead]; exact (fun z => z.elim k167 (fun z => z (by rw [← h8]; exact c177)))), ← ead, ← ra]; rfl, Or.inl ⟨rfl, rfl⟩⟩
              · refine z_iconst 180 181 K 2 dX1_execute_180 rfl (by decide) ?_
                exact z_iret K E 181 dX1_execute_181 rfl ⟨(by repeat' (first | exact zsame_rf _ _ | refine zsame_put ?_ (by decide))), nI (2 + 4 * i), zxs_ldf p1 (by rw [← ead]; exact (Or.inr (by rw [← h8]; exact c177))), Or.inr ⟨2, Or.inr rfl, rfl, rfl⟩⟩
        · obtain ⟨p1, ra⟩ := zrel_5 hr c111
          have ha : vp_in (F 1 i) 8 := by rw [ra]; exact zwf_5 hw p1
          refine z_aload_n 114 115 K 3 dX1_execute_114 rfl rfl rfl ?_
          refine yg_5 115 118 K dX1_execute_115 rfl ?_
          refine z_iload_n 118 119 K 2 dX1_execute_118 rfl rfl rfl ?_
          refine yL_5 119 120 K ha dX1_execute_119 rfl ?_
          refine z_if_eq 120 123 127 K dX1_execute_120 rfl (by decide) (fun c120 => ?_) (fun c120 => ?_)
          · refine z_iconst 127 128 K 0 dX1_execute_127 rfl (by decide) ?_
            exact z_iret K E 128 dX1_execute_128 rfl ⟨(by repeat' (first | exact zsame_rf _ _ | refine zsame_put ?_ (by decide))), -1, zxs_lv0 p1 (by rw [← ra]; exact c120), Or.inl ⟨rfl, rfl⟩⟩
          · refine z_iconst 123 124 K 1 dX1_execute_123 rfl (by decide) ?_
            refine z_goto 124 128 K dX1_execute_124 (by decide) ?_
            exact z_iret K E 128 dX1_execute_128 rfl ⟨(by repeat' (first | exact zsame_rf _ _ | refine zsame_put ?_ (by decide))), nI (1 + 4 * i), zxs_lv1 p1 (by rw [← ra]; exact c120), Or.inr ⟨1, Or.inl rfl, rfl, rfl⟩⟩
      · obtain ⟨p1, ra, rb, rc⟩ := zrel_2 hr c79
        have q1 := zwf_12 hw (Or.inr p1)
        rw [← ra, ← rb, ← rc] at q1
        obtain ⟨ha, hb, hc⟩ := q1
        refine z_aload_n 82 83 K 3 dX1_execute_82 rfl rfl rfl ?_
        refine yg_5 83 86 K dX1_execute_83 rfl ?_
        refine z_iload_n 86 87 K 2 dX1_execute_86 rfl rfl rfl ?_
        refine z_aload_n 87 88 K 3 dX1_execute_87 rfl rfl rfl ?_
        refine yg_5 88 91 K dX1_execute_88 rfl ?_
        refine z_iload_n 91 92 K 1 dX1_execute_91 rfl rfl rfl ?_
        refine yL_5 92 93 K hb dX1_execute_92 rfl ?_
        refine z_aload_n 93 94 K 3 dX1_execute_93 rfl rfl rfl ?_
        refine yg_5 94 97 K dX1_execute_94 rfl ?_
        refine z_iload 97 99 K 0 dX1_execute_97 rfl rfl ?_
        refine yL_5 99 100 K hc dX1_execute_99 rfl ?_
        refine z_isub 100 101 K dX1_execute_100 rfl ?_
        refine yS_5 101 102 K ha dX1_execute_101 rfl ?_
        refine z_iconst 102 103 K 0 dX1_execute_102 rfl (by decide) ?_
        exact z_iret K E 103 dX1_execute_103 rfl ⟨(by repeat' (first | exact zsame_rf _ _ | refine zsame_put ?_ (by decide))), -1, by rw [zxs_s p1, ← ra, ← rb, ← rc]; rfl, Or.inl ⟨rfl, rfl⟩⟩
    · obtain ⟨p1, ra, rb, rc⟩ := zrel_1 hr c47
      have q1 := zwf_12 hw (Or.inl p1)
      rw [← ra, ← rb, ← rc] at q1
      obtain ⟨ha, hb, hc⟩ := q1
      refine z_aload_n 50 51 K 3 dX1_execute_50 rfl rfl rfl ?_
      refine yg_5 51 54 K dX1_execute_51 rfl ?_
      refine z_iload_n 54 55 K 2 dX1_execute_54 rfl rfl rfl ?_
      refine z_aload_n 55 56 K 3 dX1_execute_55 rfl rfl rfl ?_
      refine yg_5 56 59 K dX1_execute_56 rfl ?_
      refine z_iload_n 59 60 K 1 dX1_execute_59 rfl rfl rfl ?_
      refine yL_5 60 61 K hb dX1_execute_60 rfl ?_
      refine z_aload_n 61 62 K 3 dX1_execute_61 rfl rfl rfl ?_
      refine yg_5 62 65 K dX1_execute_62 rfl ?_
      refine z_iload 65 67 K 0 dX1_execute_65 rfl rfl ?_
      refine yL_5 67 68 K hc dX1_execute_67 rfl ?_
      refine z_iadd 68 69 K dX1_execute_68 rfl ?_
      refine yS_5 69 70 K ha dX1_execute_69 rfl ?_
      refine z_iconst 70 71 K 0 dX1_execute_70 rfl (by decide) ?_
      exact z_iret K E 71 dX1_execute_71 rfl ⟨(by repeat' (first | exact zsame_rf _ _ | refine zsame_put ?_ (by decide))), -1, by rw [zxs_a p1, ← ra, ← rb, ← rc]; rfl, Or.inl ⟨rfl, rfl⟩⟩
  · obtain ⟨p1, ra, rb⟩ := zrel_0 hr c28
    have ha : vp_in (F 1 i) 8 := by rw [ra]; exact zwf_0 hw p1
    refine z_aload_n 31 32 K 3 dX1_execute_31 rfl rfl rfl ?_
    refine yg_5 32 35 K dX1_execute_32 rfl ?_
    refine z_iload_n 35 36 K 2 dX1_execute_35 rfl rfl rfl ?_
    refine z_iload_n 36 37 K 1 dX1_execute_36 rfl rfl rfl ?_
    refine yS_5 37 38 K ha dX1_execute_37 rfl ?_
    refine z_iconst 38 39 K 0 dX1_execute_38 rfl (by decide) ?_
    exact z_iret K E 39 dX1_execute_39 rfl ⟨(by repeat' (first | exact zsame_rf _ _ | refine zsame_put ?_ (by decide))), -1, by rw [zxs_c p1, ← ra, ← rb]; rfl, Or.inl ⟨rfl, rfl⟩⟩

set_option maxHeartbeats 4000000 in
set_option maxRecDepth 100000 in
theorem n_run (l : Launch) (D : va_G) (h0 : Nat) (ad : Nat → Nat) (cs : Nat → ClassId) (F : Nat → Nat → Int32) (P : Nat → Nat → Int32) (n : Nat) (hn : F 4 0 = nI n) (h14 : n ≤ 14) (hw : ∀ i, i < n → zwf P i) (hr : ∀ i, i < n → zrel P F i) (h8 : F 7 = P 8) : MI l yX1_run cX1_run 3 .int 2 46 D (tyM cs) (wM h0 ad cs) [.ref h0] F (fun r F' => zMRun P F n r F') := by
  refine MI_start [(0, .ref h0)] (by decide) (Nat.le_of_ble_eq_true rfl) rfl ?_
  intro Z K E
  have loop : ∀ (N i : Nat) (G : Nat → Nat → Int32), i ≤ n → n < i + N → zMI P F i G → zG Z (wM h0 ad cs) 7 [(1, .int (nI i)), (0, .ref h0)] [] G := by
    intro N
    induction N with
    | zero => intro i G h1 h2; exact absurd h2 (by omega)
    | succ N ih =>
      intro i G hi hN hI
      refine z_iload_n 7 8 K 0 dX1_run_7 rfl rfl rfl ?_
      refine z_aload_n 8 9 K 1 dX1_run_8 rfl rfl rfl ?_
      refine yg_4 9 12 K dX1_run_9 rfl ?_
      refine z_icmp_geN 12 15 47 K i n rfl (by rw [hI.1 4 (by decide)]; exact hn) (by omega) (by omega) dX1_run_12 rfl (by decide) (fun c12 => ?_) (fun c12 => ?_)
      · refine z_aload_n 47 48 K 1 dX1_run_47 rfl rfl rfl ?_
        refine yg_8 48 51 K dX1_run_48 rfl ?_
        exact z_iret K E 51 dX1_run_51 rfl (zMI_end hI hi (Or.inl c12))
      · refine z_aload_n 15 16 K 1 dX1_run_15 rfl rfl rfl ?_
        refine yg_8 16 19 K dX1_run_16 rfl ?_
        refine z_if_ne 19 22 47 K dX1_run_19 rfl (by decide) (fun c19 => ?_) (fun c19 => ?_)
        · refine z_aload_n 47 48 K 1 dX1_run_47 rfl rfl rfl ?_
          refine yg_8 48 51 K dX1_run_48 rfl ?_
          exact z_iret K E 51 dX1_run_51 rfl (zMI_end hI hi (Or.inr c19))
        · refine z_aload_n 22 23 K 1 dX1_run_22 rfl rfl rfl ?_
          refine z_iload_n 23 24 K 0 dX1_run_23 rfl rfl rfl ?_
          refine z_calli (ci := 1) (q := (RX1, TX1, 9)) 24 27 1 K (n_execute (zl Z) (zD Z) h0 ad cs _ P i (by omega) (hw i c12) (by unfold zrel; rw [hI.1 0 (by decide), hI.1 1 (by decide), hI.1 2 (by decide), hI.1 3 (by decide)]; exact hr i c12) ((hI.1 7 (by decide)).trans h8)) (lw_V q369 q371 qs26 q29 q372) (by decide +kernel) ⟨by decide, by decide⟩ rfl rfl rfl rfl (Nat.le_of_ble_eq_true rfl) dX1_run_24 rfl (fun r24 G24 h24 => ?_)
          refine z_istore_n 27 28 K [(2, .int r24), (1, .int (nI i)), (0, .ref h0)] dX1_run_27 rfl rfl (by decide) rfl ?_
          refine z_iload_n 28 29 K 0 dX1_run_28 rfl rfl rfl ?_
          refine z_if_eq 29 32 41 K dX1_run_29 rfl (by decide) (fun c29 => ?_) (fun c29 => ?_)
          · refine z_iinc 41 44 K [(1, .int (nI (i + 1))), (2, .int r24), (0, .ref h0)] 1 dX1_run_41 rfl rfl (nI_1 _) (by decide) rfl ?_
            refine z_goto 44 7 K dX1_run_44 (by decide) ?_
            exact z_lv [0, 2] rfl (ih (i + 1) _ (by omega) (by omega) (zMI_go hI c19 h24 c29))
          · refine z_aload_n 32 33 K 2 dX1_run_32 rfl rfl rfl ?_
            refine z_iload_n 33 34 K 0 dX1_run_33 rfl rfl rfl ?_
            refine z_iconst 34 35 K (nI 4) dX1_run_34 rfl (by decide) ?_
            refine z_iload_n 35 36 K 1 dX1_run_35 rfl rfl rfl ?_
            refine z_imul 36 37 K dX1_run_36 rfl ?_
            refine z_iadd 37 38 K dX1_run_37 rfl ?_
            refine yp_8 38 41 K dX1_run_38 rfl ?_
            refine z_iinc 41 44 K [(1, .int (nI (i + 1))), (2, .int r24), (0, .ref h0)] 1 dX1_run_41 rfl rfl (nI_1 _) (by decide) rfl ?_
            refine z_goto 44 7 K dX1_run_44 (by decide) ?_
            exact z_lv [0, 2] rfl (ih (i + 1) _ (by omega) (by omega) (zMI_stop (by omega) hI c19 h24 c29 (by rw [pk_mul])))
  refine z_aload_n 0 1 K 0 dX1_run_0 rfl rfl rfl ?_
  refine z_iconst 1 2 K 0 dX1_run_1 rfl (by decide) ?_
  refine yp_8 2 5 K dX1_run_2 rfl ?_
  refine z_iconst 5 6 K (nI 0) dX1_run_5 rfl (by decide) ?_
  refine z_istore_n 6 7 K [(1, .int (nI 0)), (0, .ref h0)] dX1_run_6 rfl rfl (by decide) rfl ?_
  exact z_lv [0, 1] rfl (loop (n + 1) 0 _ (by omega) (by omega) ⟨zsame_put (zsame_rf _ _) (by decide), -1, rfl, Or.inl rfl, rfl⟩)

set_option maxHeartbeats 4000000 in
set_option maxRecDepth 100000 in
theorem n_repeat (l : Launch) (D : va_G) (h0 : Nat) (ad : Nat → Nat) (cs : Nat → ClassId) (F : Nat → Nat → Int32) (P : Nat → Nat → Int32) (n : Nat) (hn : F 4 0 = nI n) (h14 : n ≤ 14) (hw : ∀ i, i < n → zwf P i) (hr : ∀ i, i < n → zrel P F i) (h8 : F 7 = P 8) (x : Int32) : MI l yX1_repeat cX1_repeat 5 .int 3 68 D (tyM cs) (wM h0 ad cs) [.ref h0, .int x] F (fun r F' => zMRep P F n (zc8 x) r F') := by
  refine MI_start [(0, .ref h0), (1, .int x)] (by decide) (Nat.le_of_ble_eq_true rfl) rfl ?_
  intro Z K E
  have h8x := zc8_le x
  have loop : ∀ (N i : Nat) (e : Int32) (G : Nat → Nat → Int32), i ≤ zc8 x → zc8 x < i + N → zMpI P F n (zc8 x) i e G → zG Z (wM h0 ad cs) 26 [(4, .int e), (3, .int (nI i)), (2, .int (nI (zc8 x))), (0, .ref h0), (1, .int x)] [] G := by
    intro N
    induction N with
    | zero => intro i e G h1 h2; exact absurd h2 (by omega)
    | succ N ih =>
      intro i e G hi hN hI
      refine z_iload_n 26 27 K 1 dX1_repeat_26 rfl rfl rfl ?_
      refine z_iload_n 27 28 K 2 dX1_repeat_27 rfl rfl rfl ?_
      refine z_icmp_geN 28 31 48 K i (zc8 x) rfl rfl (by omega) (by omega) dX1_repeat_28 rfl (by decide) (fun c28 => ?_) (fun c28 => ?_)
      · refine z_iload_n 48 49 K 1 dX1_repeat_48 rfl rfl rfl ?_
        exact z_iret K E 49 dX1_repeat_49 rfl (zMpI_end hI (Or.inl c28))
      · refine z_iload 31 33 K 0 dX1_repeat_31 rfl rfl ?_
        refine z_if_ne 33 36 48 K dX1_repeat_33 rfl (by decide) (fun c33 => ?_) (fun c33 => ?_)
        · refine z_iload_n 48 49 K 1 dX1_repeat_48 rfl rfl rfl ?_
          exact z_iret K E 49 dX1_repeat_49 rfl (zMpI_end hI (Or.inr c33))
        · refine z_aload_n 36 37 K 3 dX1_repeat_36 rfl rfl rfl ?_
          refine z_calli (ci := 1) (q := (RX1, TX1, 9)) 37 40 0 K (n_run (zl Z) (zD Z) h0 ad cs _ P n ((congrFun (hI.1 4 (by decide)) 0).trans hn) h14 hw (fun i hi => by unfold zrel; rw [hI.1 0 (by decide), hI.1 1 (by decide), hI.1 2 (by decide), hI.1 3 (by decide)]; exact hr i hi) ((hI.1 7 (by decide)).trans h8)) (lw_V q381 q366 q367 q29 q368) (by decide +kernel) ⟨by decide, by decide⟩ rfl rfl rfl rfl (Nat.le_of_ble_eq_true rfl) dX1_repeat_37 rfl (fun r37 G37 h37 => ?_)
          refine z_istore 40 42 K [(4, .int r37), (3, .int (nI i)), (2, .int (nI (zc8 x))), (0, .ref h0), (1, .int x)] dX1_repeat_40 rfl (by decide) rfl ?_
          refine z_iinc 42 45 K [(3, .int (nI (i + 1))), (4, .int r37), (2, .int (nI (zc8 x))), (0, .ref h0), (1, .int x)] 1 dX1_repeat_42 rfl rfl (nI_1 _) (by decide) rfl ?_
          refine z_goto 45 26 K dX1_repeat_45 (by decide) ?_
          exact z_lv [1, 0, 2, 3, 4] rfl (ih (i + 1) _ _ (by omega) (by omega) (zMpI_step hI c28 c33 h37))
  have main : ∀ tv : Int32, tv = nI (zc8 x) → zG Z (wM h0 ad cs) 20 [(0, .ref h0), (1, .int x)] [.int tv] F := by
    intro tv htv
    subst htv
    refine z_istore_n 20 21 K [(2, .int (nI (zc8 x))), (0, .ref h0), (1, .int x)] dX1_repeat_20 rfl rfl (by decide) rfl ?_
    refine z_iconst 21 22 K (nI 0) dX1_repeat_21 rfl (by decide) ?_
    refine z_istore_n 22 23 K [(3, .int (nI 0)), (2, .int (nI (zc8 x))), (0, .ref h0), (1, .int x)] dX1_repeat_22 rfl rfl (by decide) rfl ?_
    refine z_iconst 23 24 K 0 dX1_repeat_23 rfl (by decide) ?_
    refine z_istore 24 26 K [(4, .int 0), (3, .int (nI 0)), (2, .int (nI (zc8 x))), (0, .ref h0), (1, .int x)] dX1_repeat_24 rfl (by decide) rfl ?_
    exact z_lv [0, 1, 2, 3, 4] rfl (loop (zc8 x + 1) 0 _ _ (by omega) (by omega) ⟨zsame_rf _ _, Or.inr ⟨rfl, by rw [Nat.sub_zero, Nat.zero_add]⟩⟩)
  refine z_iload_n 0 1 K 1 dX1_repeat_0 rfl rfl rfl ?_
  refine z_if_ge 1 4 8 K dX1_repeat_1 rfl (by decide) (fun c1 => ?_) (fun c1 => ?_)
  · refine z_iload_n 8 9 K 1 dX1_repeat_8 rfl rfl rfl ?_
    refine z_bipush 9 11 K 8 dX1_repeat_9 rfl (by decide) ?_
    refine z_icmp_le 11 14 19 K dX1_repeat_11 rfl (by decide) (fun c11 => ?_) (fun c11 => ?_)
    · refine z_iload_n 19 20 K 1 dX1_repeat_19 rfl rfl rfl ?_
      exact main _ (zc8_m (zlt_not c1) c11)
    · refine z_bipush 14 16 K 8 dX1_repeat_14 rfl (by decide) ?_
      refine z_goto 16 20 K dX1_repeat_16 (by decide) ?_
      exact main _ (zc8_b (zlt_not c1) c11)
  · refine z_iconst 4 5 K 0 dX1_repeat_4 rfl (by decide) ?_
    refine z_goto 5 20 K dX1_repeat_5 (by decide) ?_
    exact main _ (zc8_n (zle_of c1))
end
section
/-! contracts of the constructors (printed by gen8.py) -/
set_option maxRecDepth 100000
def zF0 : Nat → Nat → Int32 := zput (fun _ _ => 0) 9 (fun _ => -1)
def zM0 : Nat → Nat → Int32 := zput (fun _ _ => 0) 8 (fun _ => -1)
set_option maxHeartbeats 4000000 in
set_option maxRecDepth 100000 in
theorem m_init (l : Launch) (D : va_G) (h0 sz : Nat) : Met l yX0_init (ws_ yX0_init cX0_init 1 none) ({ frames := 1, cells := 18, slots := 300, locals := 12 }) (va_Pc [.ref h0] (fun U => U.heap.size = sz ∧ va_P D vwCl [(h0, .inr (0, [.int 0, .null, .null, .null, .null, .null, .null, .null, .null, .int 0, .int 0, .null, .null, .null, .null, .int 0, .null, .null, .null, .null, .int 0, .null, .null]))] U.heap ∧ va_K D vwCl [] U ∧ va_D (fun _ => True) [(h0, .inr (0, [.int 0, .null, .null, .null, .null, .null, .null, .null, .null, .int 0, .int 0, .null, .null, .null, .null, .int 0, .null, .null, .null, .null, .int 0, .null, .null]))])) (va_Qv (fun _ : Unit => True) (fun _ t => ∃ (ad : Nat → Nat) (cs : Nat → ClassId), va_P D vwCl (wX h0 ad cs zF0) t.heap ∧ va_K D vwCl (tyX cs) t ∧ va_D (va_A [(h0, .inr (0, [.int 0, .null, .null, .null, .null, .null, .null, .null, .null, .int 0, .int 0, .null, .null, .null, .null, .int 0, .null, .null, .null, .null, .int 0, .null, .null]))] sz) (wX h0 ad cs zF0)) (va_A [(h0, .inr (0, [.int 0, .null, .null, .null, .null, .null, .null, .null, .null, .int 0, .int 0, .null, .null, .null, .null, .int 0, .null, .null, .null, .null, .int 0, .null, .null]))] sz)) 18 300 (va_A [(h0, .inr (0, [.int 0, .null, .null, .null, .null, .null, .null, .null, .null, .int 0, .int 0, .null, .null, .null, .null, .int 0, .null, .null, .null, .null, .int 0, .null, .null]))] sz) := by
  refine Met.ofW (cc := cX0_init) (maxL := 1) (ret := none) (by decide) rfl ?_
  intro p e s m args below meth c s₁ B hml hv
  obtain ⟨rfl, hsz, hP, hK, hD0⟩ := hv
  have hx := B.exec
  have hb := B.bytes
  have hr := B.returns
  have hts := atoms_spec (ws := ws_ yX0_init cX0_init 1 none) B.pre
  have hts : ∀ w ∈ lw_all, w.before _ s = true := fun w h => hts w (List.mem_cons_of_mem _ h)
  have hown : s.vm.findClass RX0 = some m.cls := findClass_of_methodNamed B.named
  have hlocks := B.notSynchronized
  have hin : meth.name = "<init>" := (name_of_methodNamed B.named B.method).1
  subst hsz
  have hD := hD0.self (sz := s.heap.size)
  generalize hAe : va_A [(h0, .inr (0, [.int 0, .null, .null, .null, .null, .null, .null, .null, .null, .int 0, .int 0, .null, .null, .null, .null, .int 0, .null, .null, .null, .null, .int 0, .null, .null]))] s.heap.size = A at hD ⊢
  have hA : ∀ q : Nat, s.heap.size ≤ q → A q := fun q h => by rw [← hAe]; exact Or.inr h
  have hS : va_S A s.heap s.heap [] := va_S.rf
  have hl := lv_entry ([.ref h0]) (n := 1) (Nat.le_of_ble_eq_true rfl)
  rw [lg_entry_eq]
  generalize (lg_sl ([.ref h0]) ++ List.replicate (1 - (lg_sl ([.ref h0])).length) Slot.unset).toArray = ls at hl ⊢
  have hl : lv_has ls 1 [(0, .ref h0)] := hl
  refine lv_aload_n hx hb dX0_init_0 rfl (lv_at hl 0 rfl) ?_
  refine W.objInit hx hb hown (hts _ q35) (hts _ q36) (hts _ q37) rfl (by rw [hml]; exact hl.1) rfl dX0_init_1 (Nat.le_of_ble_eq_true rfl) (Nat.le_of_ble_eq_true rfl) ?_
  refine W.eq (g2 := F0 m 4 ls []) rfl ?_
  refine lv_aload_n hx hb dX0_init_4 rfl (lv_at hl 0 rfl) ?_
  refine lv_bipush (v := 14) hx hb dX0_init_5 (by decide) ?_
  refine va_newa (atype := .int) (ty := .int) (N' := 14) (a0 := (14, .inl (fun _ => 0))) hx hb (hts _ q108) rfl hK hP hD hS hA (fun cA => rfl) (by decide) (by decide) (by decide) (Nat.le_of_ble_eq_true rfl) (Nat.le_of_ble_eq_true rfl) dX0_init_7 (fun q1 c1 H hK hP hD hS => ?_)
  refine W.widen (k := 1) (n := 14) (Nat.le_of_ble_eq_true rfl) (Nat.le_of_ble_eq_true rfl) ?_
  have hP : va_P D vwCl [(h0, .inr (0, [.int 0, .null, .null, .null, .null, .null, .null, .null, .null, .int 0, .int 0, .null, .null, .null, .null, .int 0, .null, .null, .null, .null, .int 0, .null, .null])), (q1, .inl (c1, 14, .inl (fun _ => 0)))] H := hP
  have hD : va_D A [(h0, .inr (0, [.int 0, .null, .null, .null, .null, .null, .null, .null, .null, .int 0, .int 0, .null, .null, .null, .null, .int 0, .null, .null, .null, .null, .int 0, .null, .null])), (q1, .inl (c1, 14, .inl (fun _ => 0)))] := hD
  have hK : va_K D vwCl [(c1, .int)] s := hK
  refine va_putF (D := D) (ci := 0) (v := .ref q1) (ty := .array .int) (C := RX0) (T := TX0) (N := 23) hx hb hts in_X0 tyX0 tyX0_ok nmX0 hown hK hP hD hS 0 rfl rfl 1 (by decide) (hts _ q39) (fun _ h9 => h9) rfl hin rfl (by decide +kernel) rfl rfl (Nat.le_of_ble_eq_true rfl) dX0_init_9 (fun H locs hP hD hS => ?_)
  have hP : va_P D vwCl [(h0, .inr (0, [.int 0, .ref q1, .null, .null, .null, .null, .null, .null, .null, .int 0, .int 0, .null, .null, .null, .null, .int 0, .null, .null, .null, .null, .int 0, .null, .null])), (q1, .inl (c1, 14, .inl (fun _ => 0)))] H := hP
  have hD : va_D A [(h0, .inr (0, [.int 0, .ref q1, .null, .null, .null, .null, .null, .null, .null, .int 0, .int 0, .null, .null, .null, .null, .int 0, .null, .null, .null, .null, .int 0, .null, .null])), (q1, .inl (c1, 14, .inl (fun _ => 0)))] := hD
  refine lv_aload_n hx hb dX0_init_12 rfl (lv_at hl 0 rfl) ?_
  refine lv_bipush (v := 14) hx hb dX0_init_13 (by decide) ?_
  refine va_newa (atype := .int) (ty := .int) (N' := 14) (a0 := (14, .inl (fun _ => 0))) hx hb (hts _ q108) rfl hK hP hD hS hA (fun cA => rfl) (by decide) (by decide) (by decide) (Nat.le_of_ble_eq_true rfl) (Nat.le_of_ble_eq_true rfl) dX0_init_15 (fun q2 c2 H hK hP hD hS => ?_)
  refine W.widen (k := 2) (n := 28) (Nat.le_of_ble_eq_true rfl) (Nat.le_of_ble_eq_true rfl) ?_
  have hP : va_P D vwCl [(h0, .inr (0, [.int 0, .ref q1, .null, .null, .null, .null, .null, .null, .null, .int 0, .int 0, .null, .null, .null, .null, .int 0, .null, .null, .null, .null, .int 0, .null, .null])), (q1, .inl (c1, 14, .inl (fun _ => 0))), (q2, .inl (c2, 14, .inl (fun _ => 0)))] H := hP
  have hD : va_D A [(h0, .inr (0, [.int 0, .ref q1, .null, .null, .null, .null, .null, .null, .null, .int 0, .int 0, .null, .null, .null, .null, .int 0, .null, .null, .null, .null, .int 0, .null, .null])), (q1, .inl (c1, 14, .inl (fun _ => 0))), (q2, .inl (c2, 14, .inl (fun _ => 0)))] := hD
  have hK : va_K D vwCl [(c1, .int), (c2, .int)] s := hK
  refine va_putF (D := D) (ci := 0) (v := .ref q2) (ty := .array .int) (C := RX0) (T := TX0) (N := 23) hx hb hts in_X0 tyX0 tyX0_ok nmX0 hown hK hP hD hS 0 rfl rfl 2 (by decide) (hts _ q40) (fun _ h9 => h9) rfl hin rfl (by decide +kernel) rfl rfl (Nat.le_of_ble_eq_true rfl) dX0_init_17 (fun H locs hP hD hS => ?_)
  have hP : va_P D vwCl [(h0, .inr (0, [.int 0, .ref q1, .ref q2, .null, .null, .null, .null, .null, .null, .int 0, .int 0, .null, .null, .null, .null, .int 0, .null, .null, .null, .null, .int 0, .null, .null])), (q1, .inl (c1, 14, .inl (fun _ => 0))), (q2, .inl (c2, 14, .inl (fun _ => 0)))] H := hP
  have hD : va_D A [(h0, .inr (0, [.int 0, .ref q1, .ref q2, .null, .null, .null, .null, .null, .null, .int 0, .int 0, .null, .null, .null, .null, .int 0, .null, .null, .null, .null, .int 0, .null, .null])), (q1, .inl (c1, 14, .inl (fun _ => 0))), (q2, .inl (c2, 14, .inl (fun _ => 0)))] := hD
  refine lv_aload_n hx hb dX0_init_20 rfl (lv_at hl 0 rfl) ?_
  refine lv_bipush (v := 14) hx hb dX0_init_21 (by decide) ?_
  refine va_newa (atype := .int) (ty := .int) (N' := 14) (a0 := (14, .inl (fun _ => 0))) hx hb (hts _ q108) rfl hK hP hD hS hA (fun cA => rfl) (by decide) (by decide) (by decide) (Nat.le_of_ble_eq_true rfl) (Nat.le_of_ble_eq_true rfl) dX0_init_23 (fun q3 c3 H hK hP hD hS => ?_)
  refine W.widen (k := 3) (n := 42) (Nat.le_of_ble_eq_true rfl) (Nat.le_of_ble_eq_true rfl) ?_
  have hP : va_P D vwCl [(h0, .inr (0, [.int 0, .ref q1, .ref q2, .null, .null, .null, .null, .null, .null, .int 0, .int 0, .null, .null, .null, .null, .int 0, .null, .null, .null, .null, .int 0, .null, .null])), (q1, .inl (c1, 14, .inl (fun _ => 0))), (q2, .inl (c2, 14, .inl (fun _ => 0))), (q3, .inl (c3, 14, .inl (fun _ => 0)))] H := hP
  have hD : va_D A [(h0, .inr (0, [.int 0, .ref q1, .ref q2, .null, .null, .null, .null, .null, .null, .int 0, .int 0, .null, .null, .null, .null, .int 0, .null, .null, .null, .null, .int 0, .null, .null])), (q1, .inl (c1, 14, .inl (fun _ => 0))), (q2, .inl (c2, 14, .inl (fun _ => 0))), (q3, .inl (c3, 14, .inl (fun _ => 0)))] := hD
  have hK : va_K D vwCl [(c1, .int), (c2, .int), (c3, .int)] s := hK
  refine va_putF (D := D) (ci := 0) (v := .ref q3) (ty := .array .int) (C := RX0) (T := TX0) (N := 23) hx hb hts in_X0 tyX0 tyX0_ok nmX0 hown hK hP hD hS 0 rfl rfl 3 (by decide) (hts _ q41) (fun _ h9 => h9) rfl hin rfl (by decide +kernel) rfl rfl (Nat.le_of_ble_eq_true rfl) dX0_init_25 (fun H locs hP hD hS => ?_)
  have hP : va_P D vwCl [(h0, .inr (0, [.int 0, .ref q1, .ref q2, .ref q3, .null, .null, .null, .null, .null, .int 0, .int 0, .null, .null, .null, .null, .int 0, .null, .null, .null, .null, .int 0, .null, .null])), (q1, .inl (c1, 14, .inl (fun _ => 0))), (q2, .inl (c2, 14, .inl (fun _ => 0))), (q3, .inl (c3, 14, .inl (fun _ => 0)))] H := hP
  have hD : va_D A [(h0, .inr (0, [.int 0, .ref q1, .ref q2, .ref q3, .null, .null, .null, .null, .null, .int 0, .int 0, .null, .null, .null, .null, .int 0, .null, .null, .null, .null, .int 0, .null, .null])), (q1, .inl (c1, 14, .inl (fun _ => 0))), (q2, .inl (c2, 14, .inl (fun _ => 0))), (q3, .inl (c3, 14, .inl (fun _ => 0)))] := hD
  refine lv_aload_n hx hb dX0_init_28 rfl (lv_at hl 0 rfl) ?_
  refine lv_bipush (v := 14) hx hb dX0_init_29 (by decide) ?_
  refine va_newa (atype := .int) (ty := .int) (N' := 14) (a0 := (14, .inl (fun _ => 0))) hx hb (hts _ q108) rfl hK hP hD hS hA (fun cA => rfl) (by decide) (by decide) (by decide) (Nat.le_of_ble_eq_true rfl) (Nat.le_of_ble_eq_true rfl) dX0_init_31 (fun q4 c4 H hK hP hD hS => ?_)
  refine W.widen (k := 4) (n := 56) (Nat.le_of_ble_eq_true rfl) (Nat.le_of_ble_eq_true rfl) ?_
  have hP : va_P D vwCl [(h0, .inr (0, [.int 0, .ref q1, .ref q2, .ref q3, .null, .null, .null, .null, .null, .int 0, .int 0, .null, .null, .null, .null, .int 0, .null, .null, .null, .null, .int 0, .null, .null])), (q1, .inl (c1, 14, .inl (fun _ => 0))), (q2, .inl (c2, 14, .inl (fun _ => 0))), (q3, .inl (c3, 14, .inl (fun _ => 0))), (q4, .inl (c4, 14, .inl (fun _ => 0)))] H := hP
  have hD : va_D A [(h0, .inr (0, [.int 0, .ref q1, .ref q2, .ref q3, .null, .null, .null, .null, .null, .int 0, .int 0, .null, .null, .null, .null, .int 0, .null, .null, .null, .null, .int 0, .null, .null])), (q1, .inl (c1, 14, .inl (fun _ => 0))), (q2, .inl (c2, 14, .inl (fun _ => 0))), (q3, .inl (c3, 14, .inl (fun _ => 0))), (q4, .inl (c4, 14, .inl (fun _ => 0)))] := hD
  have hK : va_K D vwCl [(c1, .int), (c2, .int), (c3, .int), (c4, .int)] s := hK
  refine va_putF (D := D) (ci := 0) (v := .ref q4) (ty := .array .int) (C := RX0) (T := TX0) (N := 23) hx hb hts in_X0 tyX0 tyX0_ok nmX0 hown hK hP hD hS 0 rfl rfl 4 (by decide) (hts _ q42) (fun _ h9 => h9) rfl hin rfl (by decide +kernel) rfl rfl (Nat.le_of_ble_eq_true rfl) dX0_init_33 (fun H locs hP hD hS => ?_)
  have hP : va_P D vwCl [(h0, .inr (0, [.int 0, .ref q1, .ref q2, .ref q3, .ref q4, .null, .null, .null, .null, .int 0, .int 0, .null, .null, .null, .null, .int 0, .null, .null, .null, .null, .int 0, .null, .null])), (q1, .inl (c1, 14, .inl (fun _ => 0))), (q2, .inl (c2, 14, .inl (fun _ => 0))), (q3, .inl (c3, 14, .inl (fun _ => 0))), (q4, .inl (c4, 14, .inl (fun _ => 0)))] H := hP
  have hD : va_D A [(h0, .inr (0, [.int 0, .ref q1, .ref q2, .ref q3, .ref q4, .null, .null, .null, .null, .int 0, .int 0, .null, .null, .null, .null, .int 0, .null, .null, .null, .null, .int 0, .null, .null])), (q1, .inl (c1, 14, .inl (fun _ => 0))), (q2, .inl (c2, 14, .inl (fun _ => 0))), (q3, .inl (c3, 14, .inl (fun _ => 0))), (q4, .inl (c4, 14, .inl (fun _ => 0)))] := hD
  refine lv_aload_n hx hb dX0_init_36 rfl (lv_at hl 0 rfl) ?_
  refine lv_bipush (v := 14) hx hb dX0_init_37 (by decide) ?_
  refine va_newa (atype := .int) (ty := .int) (N' := 14) (a0 := (14, .inl (fun _ => 0))) hx hb (hts _ q108) rfl hK hP hD hS hA (fun cA => rfl) (by decide) (by decide) (by decide) (Nat.le_of_ble_eq_true rfl) (Nat.le_of_ble_eq_true rfl) dX0_init_39 (fun q5 c5 H hK hP hD hS => ?_)
  refine W.widen (k := 5) (n := 70) (Nat.le_of_ble_eq_true rfl) (Nat.le_of_ble_eq_true rfl) ?_
  have hP : va_P D vwCl [(h0, .inr (0, [.int 0, .ref q1, .ref q2, .ref q3, .ref q4, .null, .null, .null, .null, .int 0, .int 0, .null, .null, .null, .null, .int 0, .null, .null, .null, .null, .int 0, .null, .null])), (q1, .inl (c1, 14, .inl (fun _ => 0))), (q2, .inl (c2, 14, .inl (fun _ => 0))), (q3, .inl (c3, 14, .inl (fun _ => 0))), (q4, .inl (c4, 14, .inl (fun _ => 0))), (q5, .inl (c5, 14, .inl (fun _ => 0)))] H := hP
  have hD : va_D A [(h0, .inr (0, [.int 0, .ref q1, .ref q2, .ref q3, .ref q4, .null, .null, .null, .null, .int 0, .int 0, .null, .null, .null, .null, .int 0, .null, .null, .null, .null, .int 0, .null, .null])), (q1, .inl (c1, 14, .inl (fun _ => 0))), (q2, .inl (c2, 14, .inl (fun _ => 0))), (q3, .inl (c3, 14, .inl (fun _ => 0))), (q4, .inl (c4, 14, .inl (fun _ => 0))), (q5, .inl (c5, 14, .inl (fun _ => 0)))] := hD
  have hK : va_K D vwCl [(c1, .int), (c2, .int), (c3, .int), (c4, .int), (c5, .int)] s := hK
  refine va_putF (D := D) (ci := 0) (v := .ref q5) (ty := .array .int) (C := RX0) (T := TX0) (N := 23) hx hb hts in_X0 tyX0 tyX0_ok nmX0 hown hK hP hD hS 0 rfl rfl 5 (by decide) (hts _ q43) (fun _ h9 => h9) rfl hin rfl (by decide +kernel) rfl rfl (Nat.le_of_ble_eq_true rfl) dX0_init_41 (fun H locs hP hD hS => ?_)
  have hP : va_P D vwCl [(h0, .inr (0, [.int 0, .ref q1, .ref q2, .ref q3, .ref q4, .ref q5, .null, .null, .null, .int 0, .int 0, .null, .null, .null, .null, .int 0, .null, .null, .null, .null, .int 0, .null, .null])), (q1, .inl (c1, 14, .inl (fun _ => 0))), (q2, .inl (c2, 14, .inl (fun _ => 0))), (q3, .inl (c3, 14, .inl (fun _ => 0))), (q4, .inl (c4, 14, .inl (fun _ => 0))), (q5, .inl (c5, 14, .inl (fun _ => 0)))] H := hP
  have hD : va_D A [(h0, .inr (0, [.int 0, .ref q1, .ref q2, .ref q3, .ref q4, .ref q5, .null, .null, .null, .int 0, .int 0, .null, .null, .null, .null, .int 0, .null, .null, .null, .null, .int 0, .null, .null])), (q1, .inl (c1, 14, .inl (fun _ => 0))), (q2, .inl (c2, 14, .inl (fun _ => 0))), (q3, .inl (c3, 14, .inl (fun _ => 0))), (q4, .inl (c4, 14, .inl (fun _ => 0))), (q5, .inl (c5, 14, .inl (fun _ => 0)))] := hD
  refine lv_aload_n hx hb dX0_init_44 rfl (lv_at hl 0 rfl) ?_
  refine lv_bipush (v := 8) hx hb dX0_init_45 (by decide) ?_
  refine va_newa (atype := .int) (ty := .int) (N' := 8) (a0 := (8, .inl (fun _ => 0))) hx hb (hts _ q108) rfl hK hP hD hS hA (fun cA => rfl) (by decide) (by decide) (by decide) (Nat.le_of_ble_eq_true rfl) (Nat.le_of_ble_eq_true rfl) dX0_init_47 (fun q6 c6 H hK hP hD hS => ?_)
  refine W.widen (k := 6) (n := 78) (Nat.le_of_ble_eq_true rfl) (Nat.le_of_ble_eq_true rfl) ?_
  have hP : va_P D vwCl [(h0, .inr (0, [.int 0, .ref q1, .ref q2, .ref q3, .ref q4, .ref q5, .null, .null, .null, .int 0, .int 0, .null, .null, .null, .null, .int 0, .null, .null, .null, .null, .int 0, .null, .null])), (q1, .inl (c1, 14, .inl (fun _ => 0))), (q2, .inl (c2, 14, .inl (fun _ => 0))), (q3, .inl (c3, 14, .inl (fun _ => 0))), (q4, .inl (c4, 14, .inl (fun _ => 0))), (q5, .inl (c5, 14, .inl (fun _ => 0))), (q6, .inl (c6, 8, .inl (fun _ => 0)))] H := hP
  have hD : va_D A [(h0, .inr (0, [.int 0, .ref q1, .ref q2, .ref q3, .ref q4, .ref q5, .null, .null, .null, .int 0, .int 0, .null, .null, .null, .null, .int 0, .null, .null, .null, .null, .int 0, .null, .null])), (q1, .inl (c1, 14, .inl (fun _ => 0))), (q2, .inl (c2, 14, .inl (fun _ => 0))), (q3, .inl (c3, 14, .inl (fun _ => 0))), (q4, .inl (c4, 14, .inl (fun _ => 0))), (q5, .inl (c5, 14, .inl (fun _ => 0))), (q6, .inl (c6, 8, .inl (fun _ => 0)))] := hD
  have hK : va_K D vwCl [(c1, .int), (c2, .int), (c3, .int), (c4, .int), (c5, .int), (c6, .int)] s := hK
  refine va_putF (D := D) (ci := 0) (v := .ref q6) (ty := .array .int) (C := RX0) (T := TX0) (N := 23) hx hb hts in_X0 tyX0 tyX0_ok nmX0 hown hK hP hD hS 0 rfl rfl 6 (by decide) (hts _ q44) (fun _ h9 => h9) rfl hin rfl (by decide +kernel) rfl rfl (Nat.le_of_ble_eq_true rfl) dX0_init_49 (fun H locs hP hD hS => ?_)
  have hP : va_P D vwCl [(h0, .inr (0, [.int 0, .ref q1, .ref q2, .ref q3, .ref q4, .ref q5, .ref q6, .null, .null, .int 0, .int 0, .null, .null, .null, .null, .int 0, .null, .null, .null, .null, .int 0, .null, .null])), (q1, .inl (c1, 14, .inl (fun _ => 0))), (q2, .inl (c2, 14, .inl (fun _ => 0))), (q3, .inl (c3, 14, .inl (fun _ => 0))), (q4, .inl (c4, 14, .inl (fun _ => 0))), (q5, .inl (c5, 14, .inl (fun _ => 0))), (q6, .inl (c6, 8, .inl (fun _ => 0)))] H := hP
  have hD : va_D A [(h0, .inr (0, [.int 0, .ref q1, .ref q2, .ref q3, .ref q4, .ref q5, .ref q6, .null, .null, .int 0, .int 0, .null, .null, .null, .null, .int 0, .null, .null, .null, .null, .int 0, .null, .null])), (q1, .inl (c1, 14, .inl (fun _ => 0))), (q2, .inl (c2, 14, .inl (fun _ => 0))), (q3, .inl (c3, 14, .inl (fun _ => 0))), (q4, .inl (c4, 14, .inl (fun _ => 0))), (q5, .inl (c5, 14, .inl (fun _ => 0))), (q6, .inl (c6, 8, .inl (fun _ => 0)))] := hD
  refine lv_aload_n hx hb dX0_init_52 rfl (lv_at hl 0 rfl) ?_
  refine lv_bipush (v := 16) hx hb dX0_init_53 (by decide) ?_
  refine va_newa (atype := .int) (ty := .int) (N' := 16) (a0 := (16, .inl (fun _ => 0))) hx hb (hts _ q108) rfl hK hP hD hS hA (fun cA => rfl) (by decide) (by decide) (by decide) (Nat.le_of_ble_eq_true rfl) (Nat.le_of_ble_eq_true rfl) dX0_init_55 (fun q7 c7 H hK hP hD hS => ?_)
  refine W.widen (k := 7) (n := 94) (Nat.le_of_ble_eq_true rfl) (Nat.le_of_ble_eq_true rfl) ?_
  have hP : va_P D vwCl [(h0, .inr (0, [.int 0, .ref q1, .ref q2, .ref q3, .ref q4, .ref q5, .ref q6, .null, .null, .int 0, .int 0, .null, .null, .null, .null, .int 0, .null, .null, .null, .null, .int 0, .null, .null])), (q1, .inl (c1, 14, .inl (fun _ => 0))), (q2, .inl (c2, 14, .inl (fun _ => 0))), (q3, .inl (c3, 14, .inl (fun _ => 0))), (q4, .inl (c4, 14, .inl (fun _ => 0))), (q5, .inl (c5, 14, .inl (fun _ => 0))), (q6, .inl (c6, 8, .inl (fun _ => 0))), (q7, .inl (c7, 16, .inl (fun _ => 0)))] H := hP
  have hD : va_D A [(h0, .inr (0, [.int 0, .ref q1, .ref q2, .ref q3, .ref q4, .ref q5, .ref q6, .null, .null, .int 0, .int 0, .null, .null, .null, .null, .int 0, .null, .null, .null, .null, .int 0, .null, .null])), (q1, .inl (c1, 14, .inl (fun _ => 0))), (q2, .inl (c2, 14, .inl (fun _ => 0))), (q3, .inl (c3, 14, .inl (fun _ => 0))), (q4, .inl (c4, 14, .inl (fun _ => 0))), (q5, .inl (c5, 14, .inl (fun _ => 0))), (q6, .inl (c6, 8, .inl (fun _ => 0))), (q7, .inl (c7, 16, .inl (fun _ => 0)))] := hD
  have hK : va_K D vwCl [(c1, .int), (c2, .int), (c3, .int), (c4, .int), (c5, .int), (c6, .int), (c7, .int)] s := hK
  refine va_putF (D := D) (ci := 0) (v := .ref q7) (ty := .array .int) (C := RX0) (T := TX0) (N := 23) hx hb hts in_X0 tyX0 tyX0_ok nmX0 hown hK hP hD hS 0 rfl rfl 7 (by decide) (hts _ q45) (fun _ h9 => h9) rfl hin rfl (by decide +kernel) rfl rfl (Nat.le_of_ble_eq_true rfl) dX0_init_57 (fun H locs hP hD hS => ?_)
  have hP : va_P D vwCl [(h0, .inr (0, [.int 0, .ref q1, .ref q2, .ref q3, .ref q4, .ref q5, .ref q6, .ref q7, .null, .int 0, .int 0, .null, .null, .null, .null, .int 0, .null, .null, .null, .null, .int 0, .null, .null])), (q1, .inl (c1, 14, .inl (fun _ => 0))), (q2, .inl (c2, 14, .inl (fun _ => 0))), (q3, .inl (c3, 14, .inl (fun _ => 0))), (q4, .inl (c4, 14, .inl (fun _ => 0))), (q5, .inl (c5, 14, .inl (fun _ => 0))), (q6, .inl (c6, 8, .inl (fun _ => 0))), (q7, .inl (c7, 16, .inl (fun _ => 0)))] H := hP
  have hD : va_D A [(h0, .inr (0, [.int 0, .ref q1, .ref q2, .ref q3, .ref q4, .ref q5, .ref q6, .ref q7, .null, .int 0, .int 0, .null, .null, .null, .null, .int 0, .null, .null, .null, .null, .int 0, .null, .null])), (q1, .inl (c1, 14, .inl (fun _ => 0))), (q2, .inl (c2, 14, .inl (fun _ => 0))), (q3, .inl (c3, 14, .inl (fun _ => 0))), (q4, .inl (c4, 14, .inl (fun _ => 0))), (q5, .inl (c5, 14, .inl (fun _ => 0))), (q6, .inl (c6, 8, .inl (fun _ => 0))), (q7, .inl (c7, 16, .inl (fun _ => 0)))] := hD
  refine lv_aload_n hx hb dX0_init_60 rfl (lv_at hl 0 rfl) ?_
  refine lv_bipush (v := 16) hx hb dX0_init_61 (by decide) ?_
  refine va_newa (atype := .boolean) (ty := .boolean) (N' := 16) (a0 := (16, .inl (fun _ => 0))) hx hb (hts _ q109) rfl hK hP hD hS hA (fun cA => rfl) (by decide) (by decide) (by decide) (Nat.le_of_ble_eq_true rfl) (Nat.le_of_ble_eq_true rfl) dX0_init_63 (fun q8 c8 H hK hP hD hS => ?_)
  refine W.widen (k := 8) (n := 110) (Nat.le_of_ble_eq_true rfl) (Nat.le_of_ble_eq_true rfl) ?_
  have hP : va_P D vwCl [(h0, .inr (0, [.int 0, .ref q1, .ref q2, .ref q3, .ref q4, .ref q5, .ref q6, .ref q7, .null, .int 0, .int 0, .null, .null, .null, .null, .int 0, .null, .null, .null, .null, .int 0, .null, .null])), (q1, .inl (c1, 14, .inl (fun _ => 0))), (q2, .inl (c2, 14, .inl (fun _ => 0))), (q3, .inl (c3, 14, .inl (fun _ => 0))), (q4, .inl (c4, 14, .inl (fun _ => 0))), (q5, .inl (c5, 14, .inl (fun _ => 0))), (q6, .inl (c6, 8, .inl (fun _ => 0))), (q7, .inl (c7, 16, .inl (fun _ => 0))), (q8, .inl (c8, 16, .inl (fun _ => 0)))] H := hP
  have hD : va_D A [(h0, .inr (0, [.int 0, .ref q1, .ref q2, .ref q3, .ref q4, .ref q5, .ref q6, .ref q7, .null, .int 0, .int 0, .null, .null, .null, .null, .int 0, .null, .null, .null, .null, .int 0, .null, .null])), (q1, .inl (c1, 14, .inl (fun _ => 0))), (q2, .inl (c2, 14, .inl (fun _ => 0))), (q3, .inl (c3, 14, .inl (fun _ => 0))), (q4, .inl (c4, 14, .inl (fun _ => 0))), (q5, .inl (c5, 14, .inl (fun _ => 0))), (q6, .inl (c6, 8, .inl (fun _ => 0))), (q7, .inl (c7, 16, .inl (fun _ => 0))), (q8, .inl (c8, 16, .inl (fun _ => 0)))] := hD
  have hK : va_K D vwCl [(c1, .int), (c2, .int), (c3, .int), (c4, .int), (c5, .int), (c6, .int), (c7, .int), (c8, .boolean)] s := hK
  refine va_putF (D := D) (ci := 0) (v := .ref q8) (ty := .array .boolean) (C := RX0) (T := TX0) (N := 23) hx hb hts in_X0 tyX0 tyX0_ok nmX0 hown hK hP hD hS 0 rfl rfl 8 (by decide) (hts _ q46) (fun _ h9 => h9) rfl hin rfl (by decide +kernel) rfl rfl (Nat.le_of_ble_eq_true rfl) dX0_init_65 (fun H locs hP hD hS => ?_)
  have hP : va_P D vwCl [(h0, .inr (0, [.int 0, .ref q1, .ref q2, .ref q3, .ref q4, .ref q5, .ref q6, .ref q7, .ref q8, .int 0, .int 0, .null, .null, .null, .null, .int 0, .null, .null, .null, .null, .int 0, .null, .null])), (q1, .inl (c1, 14, .inl (fun _ => 0))), (q2, .inl (c2, 14, .inl (fun _ => 0))), (q3, .inl (c3, 14, .inl (fun _ => 0))), (q4, .inl (c4, 14, .inl (fun _ => 0))), (q5, .inl (c5, 14, .inl (fun _ => 0))), (q6, .inl (c6, 8, .inl (fun _ => 0))), (q7, .inl (c7, 16, .inl (fun _ => 0))), (q8, .inl (c8, 16, .inl (fun _ => 0)))] H := hP
  have hD : va_D A [(h0, .inr (0, [.int 0, .ref q1, .ref q2, .ref q3, .ref q4, .ref q5, .ref q6, .ref q7, .ref q8, .int 0, .int 0, .null, .null, .null, .null, .int 0, .null, .null, .null, .null, .int 0, .null, .null])), (q1, .inl (c1, 14, .inl (fun _ => 0))), (q2, .inl (c2, 14, .inl (fun _ => 0))), (q3, .inl (c3, 14, .inl (fun _ => 0))), (q4, .inl (c4, 14, .inl (fun _ => 0))), (q5, .inl (c5, 14, .inl (fun _ => 0))), (q6, .inl (c6, 8, .inl (fun _ => 0))), (q7, .inl (c7, 16, .inl (fun _ => 0))), (q8, .inl (c8, 16, .inl (fun _ => 0)))] := hD
  refine lv_aload_n hx hb dX0_init_68 rfl (lv_at hl 0 rfl) ?_
  refine lv_bipush (v := 28) hx hb dX0_init_69 (by decide) ?_
  refine va_newa (atype := .boolean) (ty := .boolean) (N' := 28) (a0 := (28, .inl (fun _ => 0))) hx hb (hts _ q109) rfl hK hP hD hS hA (fun cA => rfl) (by decide) (by decide) (by decide) (Nat.le_of_ble_eq_true rfl) (Nat.le_of_ble_eq_true rfl) dX0_init_71 (fun q9 c9 H hK hP hD hS => ?_)
  refine W.widen (k := 9) (n := 138) (Nat.le_of_ble_eq_true rfl) (Nat.le_of_ble_eq_true rfl) ?_
  have hP : va_P D vwCl [(h0, .inr (0, [.int 0, .ref q1, .ref q2, .ref q3, .ref q4, .ref q5, .ref q6, .ref q7, .ref q8, .int 0, .int 0, .null, .null, .null, .null, .int 0, .null, .null, .null, .null, .int 0, .null, .null])), (q1, .inl (c1, 14, .inl (fun _ => 0))), (q2, .inl (c2, 14, .inl (fun _ => 0))), (q3, .inl (c3, 14, .inl (fun _ => 0))), (q4, .inl (c4, 14, .inl (fun _ => 0))), (q5, .inl (c5, 14, .inl (fun _ => 0))), (q6, .inl (c6, 8, .inl (fun _ => 0))), (q7, .inl (c7, 16, .inl (fun _ => 0))), (q8, .inl (c8, 16, .inl (fun _ => 0))), (q9, .inl (c9, 28, .inl (fun _ => 0)))] H := hP
  have hD : va_D A [(h0, .inr (0, [.int 0, .ref q1, .ref q2, .ref q3, .ref q4, .ref q5, .ref q6, .ref q7, .ref q8, .int 0, .int 0, .null, .null, .null, .null, .int 0, .null, .null, .null, .null, .int 0, .null, .null])), (q1, .inl (c1, 14, .inl (fun _ => 0))), (q2, .inl (c2, 14, .inl (fun _ => 0))), (q3, .inl (c3, 14, .inl (fun _ => 0))), (q4, .inl (c4, 14, .inl (fun _ => 0))), (q5, .inl (c5, 14, .inl (fun _ => 0))), (q6, .inl (c6, 8, .inl (fun _ => 0))), (q7, .inl (c7, 16, .inl (fun _ => 0))), (q8, .inl (c8, 16, .inl (fun _ => 0))), (q9, .inl (c9, 28, .inl (fun _ => 0)))] := hD
  have hK : va_K D vwCl [(c1, .int), (c2, .int), (c3, .int), (c4, .int), (c5, .int), (c6, .int), (c7, .int), (c8, .boolean), (c9, .boolean)] s := hK
  refine va_putF (D := D) (ci := 0) (v := .ref q9) (ty := .array .boolean) (C := RX0) (T := TX0) (N := 23) hx hb hts in_X0 tyX0 tyX0_ok nmX0 hown hK hP hD hS 0 rfl rfl 11 (by decide) (hts _ q49) (fun _ h9 => h9) rfl hin rfl (by decide +kernel) rfl rfl (Nat.le_of_ble_eq_true rfl) dX0_init_73 (fun H locs hP hD hS => ?_)
  have hP : va_P D vwCl [(h0, .inr (0, [.int 0, .ref q1, .ref q2, .ref q3, .ref q4, .ref q5, .ref q6, .ref q7, .ref q8, .int 0, .int 0, .ref q9, .null, .null, .null, .int 0, .null, .null, .null, .null, .int 0, .null, .null])), (q1, .inl (c1, 14, .inl (fun _ => 0))), (q2, .inl (c2, 14, .inl (fun _ => 0))), (q3, .inl (c3, 14, .inl (fun _ => 0))), (q4, .inl (c4, 14, .inl (fun _ => 0))), (q5, .inl (c5, 14, .inl (fun _ => 0))), (q6, .inl (c6, 8, .inl (fun _ => 0))), (q7, .inl (c7, 16, .inl (fun _ => 0))), (q8, .inl (c8, 16, .inl (fun _ => 0))), (q9, .inl (c9, 28, .inl (fun _ => 0)))] H := hP
  have hD : va_D A [(h0, .inr (0, [.int 0, .ref q1, .ref q2, .ref q3, .ref q4, .ref q5, .ref q6, .ref q7, .ref q8, .int 0, .int 0, .ref q9, .null, .null, .null, .int 0, .null, .null, .null, .null, .int 0, .null, .null])), (q1, .inl (c1, 14, .inl (fun _ => 0))), (q2, .inl (c2, 14, .inl (fun _ => 0))), (q3, .inl (c3, 14, .inl (fun _ => 0))), (q4, .inl (c4, 14, .inl (fun _ => 0))), (q5, .inl (c5, 14, .inl (fun _ => 0))), (q6, .inl (c6, 8, .inl (fun _ => 0))), (q7, .inl (c7, 16, .inl (fun _ => 0))), (q8, .inl (c8, 16, .inl (fun _ => 0))), (q9, .inl (c9, 28, .inl (fun _ => 0)))] := hD
  refine lv_aload_n hx hb dX0_init_76 rfl (lv_at hl 0 rfl) ?_
  refine lv_bipush (v := 28) hx hb dX0_init_77 (by decide) ?_
  refine va_newa (atype := .int) (ty := .int) (N' := 28) (a0 := (28, .inl (fun _ => 0))) hx hb (hts _ q108) rfl hK hP hD hS hA (fun cA => rfl) (by decide) (by decide) (by decide) (Nat.le_of_ble_eq_true rfl) (Nat.le_of_ble_eq_true rfl) dX0_init_79 (fun q10 c10 H hK hP hD hS => ?_)
  refine W.widen (k := 10) (n := 166) (Nat.le_of_ble_eq_true rfl) (Nat.le_of_ble_eq_true rfl) ?_
  have hP : va_P D vwCl [(h0, .inr (0, [.int 0, .ref q1, .ref q2, .ref q3, .ref q4, .ref q5, .ref q6, .ref q7, .ref q8, .int 0, .int 0, .ref q9, .null, .null, .null, .int 0, .null, .null, .null, .null, .int 0, .null, .null])), (q1, .inl (c1, 14, .inl (fun _ => 0))), (q2, .inl (c2, 14, .inl (fun _ => 0))), (q3, .inl (c3, 14, .inl (fun _ => 0))), (q4, .inl (c4, 14, .inl (fun _ => 0))), (q5, .inl (c5, 14, .inl (fun _ => 0))), (q6, .inl (c6, 8, .inl (fun _ => 0))), (q7, .inl (c7, 16, .inl (fun _ => 0))), (q8, .inl (c8, 16, .inl (fun _ => 0))), (q9, .inl (c9, 28, .inl (fun _ => 0))), (q10, .inl (c10, 28, .inl (fun _ => 0)))] H := hP
  have hD : va_D A [(h0, .inr (0, [.int 0, .ref q1, .ref q2, .ref q3, .ref q4, .ref q5, .ref q6, .ref q7, .ref q8, .int 0, .int 0, .ref q9, .null, .null, .null, .int 0, .null, .null, .null, .null, .int 0, .null, .null])), (q1, .inl (c1, 14, .inl (fun _ => 0))), (q2, .inl (c2, 14, .inl (fun _ => 0))), (q3, .inl (c3, 14, .inl (fun _ => 0))), (q4, .inl (c4, 14, .inl (fun _ => 0))), (q5, .inl (c5, 14, .inl (fun _ => 0))), (q6, .inl (c6, 8, .inl (fun _ => 0))), (q7, .inl (c7, 16, .inl (fun _ => 0))), (q8, .inl (c8, 16, .inl (fun _ => 0))), (q9, .inl (c9, 28, .inl (fun _ => 0))), (q10, .inl (c10, 28, .inl (fun _ => 0)))] := hD
  have hK : va_K D vwCl [(c1, .int), (c2, .int), (c3, .int), (c4, .int), (c5, .int), (c6, .int), (c7, .int), (c8, .boolean), (c9, .boolean), (c10, .int)] s := hK
  refine va_putF (D := D) (ci := 0) (v := .ref q10) (ty := .array .int) (C := RX0) (T := TX0) (N := 23) hx hb hts in_X0 tyX0 tyX0_ok nmX0 hown hK hP hD hS 0 rfl rfl 12 (by decide) (hts _ q50) (fun _ h9 => h9) rfl hin rfl (by decide +kernel) rfl rfl (Nat.le_of_ble_eq_true rfl) dX0_init_81 (fun H locs hP hD hS => ?_)
  have hP : va_P D vwCl [(h0, .inr (0, [.int 0, .ref q1, .ref q2, .ref q3, .ref q4, .ref q5, .ref q6, .ref q7, .ref q8, .int 0, .int 0, .ref q9, .ref q10, .null, .null, .int 0, .null, .null, .null, .null, .int 0, .null, .null])), (q1, .inl (c1, 14, .inl (fun _ => 0))), (q2, .inl (c2, 14, .inl (fun _ => 0))), (q3, .inl (c3, 14, .inl (fun _ => 0))), (q4, .inl (c4, 14, .inl (fun _ => 0))), (q5, .inl (c5, 14, .inl (fun _ => 0))), (q6, .inl (c6, 8, .inl (fun _ => 0))), (q7, .inl (c7, 16, .inl (fun _ => 0))), (q8, .inl (c8, 16, .inl (fun _ => 0))), (q9, .inl (c9, 28, .inl (fun _ => 0))), (q10, .inl (c10, 28, .inl (fun _ => 0)))] H := hP
  have hD : va_D A [(h0, .inr (0, [.int 0, .ref q1, .ref q2, .ref q3, .ref q4, .ref q5, .ref q6, .ref q7, .ref q8, .int 0, .int 0, .ref q9, .ref q10, .null, .null, .int 0, .null, .null, .null, .null, .int 0, .null, .null])), (q1, .inl (c1, 14, .inl (fun _ => 0))), (q2, .inl (c2, 14, .inl (fun _ => 0))), (q3, .inl (c3, 14, .inl (fun _ => 0))), (q4, .inl (c4, 14, .inl (fun _ => 0))), (q5, .inl (c5, 14, .inl (fun _ => 0))), (q6, .inl (c6, 8, .inl (fun _ => 0))), (q7, .inl (c7, 16, .inl (fun _ => 0))), (q8, .inl (c8, 16, .inl (fun _ => 0))), (q9, .inl (c9, 28, .inl (fun _ => 0))), (q10, .inl (c10, 28, .inl (fun _ => 0)))] := hD
  refine lv_aload_n hx hb dX0_init_84 rfl (lv_at hl 0 rfl) ?_
  refine lv_bipush (v := 28) hx hb dX0_init_85 (by decide) ?_
  refine va_newa (atype := .int) (ty := .int) (N' := 28) (a0 := (28, .inl (fun _ => 0))) hx hb (hts _ q108) rfl hK hP hD hS hA (fun cA => rfl) (by decide) (by decide) (by decide) (Nat.le_of_ble_eq_true rfl) (Nat.le_of_ble_eq_true rfl) dX0_init_87 (fun q11 c11 H hK hP hD hS => ?_)
  refine W.widen (k := 11) (n := 194) (Nat.le_of_ble_eq_true rfl) (Nat.le_of_ble_eq_true rfl) ?_
  have hP : va_P D vwCl [(h0, .inr (0, [.int 0, .ref q1, .ref q2, .ref q3, .ref q4, .ref q5, .ref q6, .ref q7, .ref q8, .int 0, .int 0, .ref q9, .ref q10, .null, .null, .int 0, .null, .null, .null, .null, .int 0, .null, .null])), (q1, .inl (c1, 14, .inl (fun _ => 0))), (q2, .inl (c2, 14, .inl (fun _ => 0))), (q3, .inl (c3, 14, .inl (fun _ => 0))), (q4, .inl (c4, 14, .inl (fun _ => 0))), (q5, .inl (c5, 14, .inl (fun _ => 0))), (q6, .inl (c6, 8, .inl (fun _ => 0))), (q7, .inl (c7, 16, .inl (fun _ => 0))), (q8, .inl (c8, 16, .inl (fun _ => 0))), (q9, .inl (c9, 28, .inl (fun _ => 0))), (q10, .inl (c10, 28, .inl (fun _ => 0))), (q11, .inl (c11, 28, .inl (fun _ => 0)))] H := hP
  have hD : va_D A [(h0, .inr (0, [.int 0, .ref q1, .ref q2, .ref q3, .ref q4, .ref q5, .ref q6, .ref q7, .ref q8, .int 0, .int 0, .ref q9, .ref q10, .null, .null, .int 0, .null, .null, .null, .null, .int 0, .null, .null])), (q1, .inl (c1, 14, .inl (fun _ => 0))), (q2, .inl (c2, 14, .inl (fun _ => 0))), (q3, .inl (c3, 14, .inl (fun _ => 0))), (q4, .inl (c4, 14, .inl (fun _ => 0))), (q5, .inl (c5, 14, .inl (fun _ => 0))), (q6, .inl (c6, 8, .inl (fun _ => 0))), (q7, .inl (c7, 16, .inl (fun _ => 0))), (q8, .inl (c8, 16, .inl (fun _ => 0))), (q9, .inl (c9, 28, .inl (fun _ => 0))), (q10, .inl (c10, 28, .inl (fun _ => 0))), (q11, .inl (c11, 28, .inl (fun _ => 0)))] := hD
  have hK : va_K D vwCl [(c1, .int), (c2, .int), (c3, .int), (c4, .int), (c5, .int), (c6, .int), (c7, .int), (c8, .boolean), (c9, .boolean), (c10, .int), (c11, .int)] s := hK
  refine va_putF (D := D) (ci := 0) (v := .ref q11) (ty := .array .int) (C := RX0) (T := TX0) (N := 23) hx hb hts in_X0 tyX0 tyX0_ok nmX0 hown hK hP hD hS 0 rfl rfl 13 (by decide) (hts _ q51) (fun _ h9 => h9) rfl hin rfl (by decide +kernel) rfl rfl (Nat.le_of_ble_eq_true rfl) dX0_init_89 (fun H locs hP hD hS => ?_)
  have hP : va_P D vwCl [(h0, .inr (0, [.int 0, .ref q1, .ref q2, .ref q3, .ref q4, .ref q5, .ref q6, .ref q7, .ref q8, .int 0, .int 0, .ref q9, .ref q10, .ref q11, .null, .int 0, .null, .null, .null, .null, .int 0, .null, .null])), (q1, .inl (c1, 14, .inl (fun _ => 0))), (q2, .inl (c2, 14, .inl (fun _ => 0))), (q3, .inl (c3, 14, .inl (fun _ => 0))), (q4, .inl (c4, 14, .inl (fun _ => 0))), (q5, .inl (c5, 14, .inl (fun _ => 0))), (q6, .inl (c6, 8, .inl (fun _ => 0))), (q7, .inl (c7, 16, .inl (fun _ => 0))), (q8, .inl (c8, 16, .inl (fun _ => 0))), (q9, .inl (c9, 28, .inl (fun _ => 0))), (q10, .inl (c10, 28, .inl (fun _ => 0))), (q11, .inl (c11, 28, .inl (fun _ => 0)))] H := hP
  have hD : va_D A [(h0, .inr (0, [.int 0, .ref q1, .ref q2, .ref q3, .ref q4, .ref q5, .ref q6, .ref q7, .ref q8, .int 0, .int 0, .ref q9, .ref q10, .ref q11, .null, .int 0, .null, .null, .null, .null, .int 0, .null, .null])), (q1, .inl (c1, 14, .inl (fun _ => 0))), (q2, .inl (c2, 14, .inl (fun _ => 0))), (q3, .inl (c3, 14, .inl (fun _ => 0))), (q4, .inl (c4, 14, .inl (fun _ => 0))), (q5, .inl (c5, 14, .inl (fun _ => 0))), (q6, .inl (c6, 8, .inl (fun _ => 0))), (q7, .inl (c7, 16, .inl (fun _ => 0))), (q8, .inl (c8, 16, .inl (fun _ => 0))), (q9, .inl (c9, 28, .inl (fun _ => 0))), (q10, .inl (c10, 28, .inl (fun _ => 0))), (q11, .inl (c11, 28, .inl (fun _ => 0)))] := hD
  refine lv_aload_n hx hb dX0_init_92 rfl (lv_at hl 0 rfl) ?_
  refine lv_bipush (v := 28) hx hb dX0_init_93 (by decide) ?_
  refine va_newa (atype := .int) (ty := .int) (N' := 28) (a0 := (28, .inl (fun _ => 0))) hx hb (hts _ q108) rfl hK hP hD hS hA (fun cA => rfl) (by decide) (by decide) (by decide) (Nat.le_of_ble_eq_true rfl) (Nat.le_of_ble_eq_true rfl) dX0_init_95 (fun q12 c12 H hK hP hD hS => ?_)
  refine W.widen (k := 12) (n := 222) (Nat.le_of_ble_eq_true rfl) (Nat.le_of_ble_eq_true rfl) ?_
  have hP : va_P D vwCl [(h0, .inr (0, [.int 0, .ref q1, .ref q2, .ref q3, .ref q4, .ref q5, .ref q6, .ref q7, .ref q8, .int 0, .int 0, .ref q9, .ref q10, .ref q11, .null, .int 0, .null, .null, .null, .null, .int 0, .null, .null])), (q1, .inl (c1, 14, .inl (fun _ => 0))), (q2, .inl (c2, 14, .inl (fun _ => 0))), (q3, .inl (c3, 14, .inl (fun _ => 0))), (q4, .inl (c4, 14, .inl (fun _ => 0))), (q5, .inl (c5, 14, .inl (fun _ => 0))), (q6, .inl (c6, 8, .inl (fun _ => 0))), (q7, .inl (c7, 16, .inl (fun _ => 0))), (q8, .inl (c8, 16, .inl (fun _ => 0))), (q9, .inl (c9, 28, .inl (fun _ => 0))), (q10, .inl (c10, 28, .inl (fun _ => 0))), (q11, .inl (c11, 28, .inl (fun _ => 0))), (q12, .inl (c12, 28, .inl (fun _ => 0)))] H := hP
  have hD : va_D A [(h0, .inr (0, [.int 0, .ref q1, .ref q2, .ref q3, .ref q4, .ref q5, .ref q6, .ref q7, .ref q8, .int 0, .int 0, .ref q9, .ref q10, .ref q11, .null, .int 0, .null, .null, .null, .null, .int 0, .null, .null])), (q1, .inl (c1, 14, .inl (fun _ => 0))), (q2, .inl (c2, 14, .inl (fun _ => 0))), (q3, .inl (c3, 14, .inl (fun _ => 0))), (q4, .inl (c4, 14, .inl (fun _ => 0))), (q5, .inl (c5, 14, .inl (fun _ => 0))), (q6, .inl (c6, 8, .inl (fun _ => 0))), (q7, .inl (c7, 16, .inl (fun _ => 0))), (q8, .inl (c8, 16, .inl (fun _ => 0))), (q9, .inl (c9, 28, .inl (fun _ => 0))), (q10, .inl (c10, 28, .inl (fun _ => 0))), (q11, .inl (c11, 28, .inl (fun _ => 0))), (q12, .inl (c12, 28, .inl (fun _ => 0)))] := hD
  have hK : va_K D vwCl [(c1, .int), (c2, .int), (c3, .int), (c4, .int), (c5, .int), (c6, .int), (c7, .int), (c8, .boolean), (c9, .boolean), (c10, .int), (c11, .int), (c12, .int)] s := hK
  refine va_putF (D := D) (ci := 0) (v := .ref q12) (ty := .array .int) (C := RX0) (T := TX0) (N := 23) hx hb hts in_X0 tyX0 tyX0_ok nmX0 hown hK hP hD hS 0 rfl rfl 14 (by decide) (hts _ q52) (fun _ h9 => h9) rfl hin rfl (by decide +kernel) rfl rfl (Nat.le_of_ble_eq_true rfl) dX0_init_97 (fun H locs hP hD hS => ?_)
  have hP : va_P D vwCl [(h0, .inr (0, [.int 0, .ref q1, .ref q2, .ref q3, .ref q4, .ref q5, .ref q6, .ref q7, .ref q8, .int 0, .int 0, .ref q9, .ref q10, .ref q11, .ref q12, .int 0, .null, .null, .null, .null, .int 0, .null, .null])), (q1, .inl (c1, 14, .inl (fun _ => 0))), (q2, .inl (c2, 14, .inl (fun _ => 0))), (q3, .inl (c3, 14, .inl (fun _ => 0))), (q4, .inl (c4, 14, .inl (fun _ => 0))), (q5, .inl (c5, 14, .inl (fun _ => 0))), (q6, .inl (c6, 8, .inl (fun _ => 0))), (q7, .inl (c7, 16, .inl (fun _ => 0))), (q8, .inl (c8, 16, .inl (fun _ => 0))), (q9, .inl (c9, 28, .inl (fun _ => 0))), (q10, .inl (c10, 28, .inl (fun _ => 0))), (q11, .inl (c11, 28, .inl (fun _ => 0))), (q12, .inl (c12, 28, .inl (fun _ => 0)))] H := hP
  have hD : va_D A [(h0, .inr (0, [.int 0, .ref q1, .ref q2, .ref q3, .ref q4, .ref q5, .ref q6, .ref q7, .ref q8, .int 0, .int 0, .ref q9, .ref q10, .ref q11, .ref q12, .int 0, .null, .null, .null, .null, .int 0, .null, .null])), (q1, .inl (c1, 14, .inl (fun _ => 0))), (q2, .inl (c2, 14, .inl (fun _ => 0))), (q3, .inl (c3, 14, .inl (fun _ => 0))), (q4, .inl (c4, 14, .inl (fun _ => 0))), (q5, .inl (c5, 14, .inl (fun _ => 0))), (q6, .inl (c6, 8, .inl (fun _ => 0))), (q7, .inl (c7, 16, .inl (fun _ => 0))), (q8, .inl (c8, 16, .inl (fun _ => 0))), (q9, .inl (c9, 28, .inl (fun _ => 0))), (q10, .inl (c10, 28, .inl (fun _ => 0))), (q11, .inl (c11, 28, .inl (fun _ => 0))), (q12, .inl (c12, 28, .inl (fun _ => 0)))] := hD
  refine lv_aload_n hx hb dX0_init_100 rfl (lv_at hl 0 rfl) ?_
  refine lv_bipush (v := 28) hx hb dX0_init_101 (by decide) ?_
  refine va_newa (atype := .int) (ty := .int) (N' := 28) (a0 := (28, .inl (fun _ => 0))) hx hb (hts _ q108) rfl hK hP hD hS hA (fun cA => rfl) (by decide) (by decide) (by decide) (Nat.le_of_ble_eq_true rfl) (Nat.le_of_ble_eq_true rfl) dX0_init_103 (fun q13 c13 H hK hP hD hS => ?_)
  refine W.widen (k := 13) (n := 250) (Nat.le_of_ble_eq_true rfl) (Nat.le_of_ble_eq_true rfl) ?_
  have hP : va_P D vwCl [(h0, .inr (0, [.int 0, .ref q1, .ref q2, .ref q3, .ref q4, .ref q5, .ref q6, .ref q7, .ref q8, .int 0, .int 0, .ref q9, .ref q10, .ref q11, .ref q12, .int 0, .null, .null, .null, .null, .int 0, .null, .null])), (q1, .inl (c1, 14, .inl (fun _ => 0))), (q2, .inl (c2, 14, .inl (fun _ => 0))), (q3, .inl (c3, 14, .inl (fun _ => 0))), (q4, .inl (c4, 14, .inl (fun _ => 0))), (q5, .inl (c5, 14, .inl (fun _ => 0))), (q6, .inl (c6, 8, .inl (fun _ => 0))), (q7, .inl (c7, 16, .inl (fun _ => 0))), (q8, .inl (c8, 16, .inl (fun _ => 0))), (q9, .inl (c9, 28, .inl (fun _ => 0))), (q10, .inl (c10, 28, .inl (fun _ => 0))), (q11, .inl (c11, 28, .inl (fun _ => 0))), (q12, .inl (c12, 28, .inl (fun _ => 0))), (q13, .inl (c13, 28, .inl (fun _ => 0)))] H := hP
  have hD : va_D A [(h0, .inr (0, [.int 0, .ref q1, .ref q2, .ref q3, .ref q4, .ref q5, .ref q6, .ref q7, .ref q8, .int 0, .int 0, .ref q9, .ref q10, .ref q11, .ref q12, .int 0, .null, .null, .null, .null, .int 0, .null, .null])), (q1, .inl (c1, 14, .inl (fun _ => 0))), (q2, .inl (c2, 14, .inl (fun _ => 0))), (q3, .inl (c3, 14, .inl (fun _ => 0))), (q4, .inl (c4, 14, .inl (fun _ => 0))), (q5, .inl (c5, 14, .inl (fun _ => 0))), (q6, .inl (c6, 8, .inl (fun _ => 0))), (q7, .inl (c7, 16, .inl (fun _ => 0))), (q8, .inl (c8, 16, .inl (fun _ => 0))), (q9, .inl (c9, 28, .inl (fun _ => 0))), (q10, .inl (c10, 28, .inl (fun _ => 0))), (q11, .inl (c11, 28, .inl (fun _ => 0))), (q12, .inl (c12, 28, .inl (fun _ => 0))), (q13, .inl (c13, 28, .inl (fun _ => 0)))] := hD
  have hK : va_K D vwCl [(c1, .int), (c2, .int), (c3, .int), (c4, .int), (c5, .int), (c6, .int), (c7, .int), (c8, .boolean), (c9, .boolean), (c10, .int), (c11, .int), (c12, .int), (c13, .int)] s := hK
  refine va_putF (D := D) (ci := 0) (v := .ref q13) (ty := .array .int) (C := RX0) (T := TX0) (N := 23) hx hb hts in_X0 tyX0 tyX0_ok nmX0 hown hK hP hD hS 0 rfl rfl 16 (by decide) (hts _ q54) (fun _ h9 => h9) rfl hin rfl (by decide +kernel) rfl rfl (Nat.le_of_ble_eq_true rfl) dX0_init_105 (fun H locs hP hD hS => ?_)
  have hP : va_P D vwCl [(h0, .inr (0, [.int 0, .ref q1, .ref q2, .ref q3, .ref q4, .ref q5, .ref q6, .ref q7, .ref q8, .int 0, .int 0, .ref q9, .ref q10, .ref q11, .ref q12, .int 0, .ref q13, .null, .null, .null, .int 0, .null, .null])), (q1, .inl (c1, 14, .inl (fun _ => 0))), (q2, .inl (c2, 14, .inl (fun _ => 0))), (q3, .inl (c3, 14, .inl (fun _ => 0))), (q4, .inl (c4, 14, .inl (fun _ => 0))), (q5, .inl (c5, 14, .inl (fun _ => 0))), (q6, .inl (c6, 8, .inl (fun _ => 0))), (q7, .inl (c7, 16, .inl (fun _ => 0))), (q8, .inl (c8, 16, .inl (fun _ => 0))), (q9, .inl (c9, 28, .inl (fun _ => 0))), (q10, .inl (c10, 28, .inl (fun _ => 0))), (q11, .inl (c11, 28, .inl (fun _ => 0))), (q12, .inl (c12, 28, .inl (fun _ => 0))), (q13, .inl (c13, 28, .inl (fun _ => 0)))] H := hP
  have hD : va_D A [(h0, .inr (0, [.int 0, .ref q1, .ref q2, .ref q3, .ref q4, .ref q5, .ref q6, .ref q7, .ref q8, .int 0, .int 0, .ref q9, .ref q10, .ref q11, .ref q12, .int 0, .ref q13, .null, .null, .null, .int 0, .null, .null])), (q1, .inl (c1, 14, .inl (fun _ => 0))), (q2, .inl (c2, 14, .inl (fun _ => 0))), (q3, .inl (c3, 14, .inl (fun _ => 0))), (q4, .inl (c4, 14, .inl (fun _ => 0))), (q5, .inl (c5, 14, .inl (fun _ => 0))), (q6, .inl (c6, 8, .inl (fun _ => 0))), (q7, .inl (c7, 16, .inl (fun _ => 0))), (q8, .inl (c8, 16, .inl (fun _ => 0))), (q9, .inl (c9, 28, .inl (fun _ => 0))), (q10, .inl (c10, 28, .inl (fun _ => 0))), (q11, .inl (c11, 28, .inl (fun _ => 0))), (q12, .inl (c12, 28, .inl (fun _ => 0))), (q13, .inl (c13, 28, .inl (fun _ => 0)))] := hD
  refine lv_aload_n hx hb dX0_init_108 rfl (lv_at hl 0 rfl) ?_
  refine lv_bipush (v := 14) hx hb dX0_init_109 (by decide) ?_
  refine va_newa (atype := .int) (ty := .int) (N' := 14) (a0 := (14, .inl (fun _ => 0))) hx hb (hts _ q108) rfl hK hP hD hS hA (fun cA => rfl) (by decide) (by decide) (by decide) (Nat.le_of_ble_eq_true rfl) (Nat.le_of_ble_eq_true rfl) dX0_init_111 (fun q14 c14 H hK hP hD hS => ?_)
  refine W.widen (k := 14) (n := 264) (Nat.le_of_ble_eq_true rfl) (Nat.le_of_ble_eq_true rfl) ?_
  have hP : va_P D vwCl [(h0, .inr (0, [.int 0, .ref q1, .ref q2, .ref q3, .ref q4, .ref q5, .ref q6, .ref q7, .ref q8, .int 0, .int 0, .ref q9, .ref q10, .ref q11, .ref q12, .int 0, .ref q13, .null, .null, .null, .int 0, .null, .null])), (q1, .inl (c1, 14, .inl (fun _ => 0))), (q2, .inl (c2, 14, .inl (fun _ => 0))), (q3, .inl (c3, 14, .inl (fun _ => 0))), (q4, .inl (c4, 14, .inl (fun _ => 0))), (q5, .inl (c5, 14, .inl (fun _ => 0))), (q6, .inl (c6, 8, .inl (fun _ => 0))), (q7, .inl (c7, 16, .inl (fun _ => 0))), (q8, .inl (c8, 16, .inl (fun _ => 0))), (q9, .inl (c9, 28, .inl (fun _ => 0))), (q10, .inl (c10, 28, .inl (fun _ => 0))), (q11, .inl (c11, 28, .inl (fun _ => 0))), (q12, .inl (c12, 28, .inl (fun _ => 0))), (q13, .inl (c13, 28, .inl (fun _ => 0))), (q14, .inl (c14, 14, .inl (fun _ => 0)))] H := hP
  have hD : va_D A [(h0, .inr (0, [.int 0, .ref q1, .ref q2, .ref q3, .ref q4, .ref q5, .ref q6, .ref q7, .ref q8, .int 0, .int 0, .ref q9, .ref q10, .ref q11, .ref q12, .int 0, .ref q13, .null, .null, .null, .int 0, .null, .null])), (q1, .inl (c1, 14, .inl (fun _ => 0))), (q2, .inl (c2, 14, .inl (fun _ => 0))), (q3, .inl (c3, 14, .inl (fun _ => 0))), (q4, .inl (c4, 14, .inl (fun _ => 0))), (q5, .inl (c5, 14, .inl (fun _ => 0))), (q6, .inl (c6, 8, .inl (fun _ => 0))), (q7, .inl (c7, 16, .inl (fun _ => 0))), (q8, .inl (c8, 16, .inl (fun _ => 0))), (q9, .inl (c9, 28, .inl (fun _ => 0))), (q10, .inl (c10, 28, .inl (fun _ => 0))), (q11, .inl (c11, 28, .inl (fun _ => 0))), (q12, .inl (c12, 28, .inl (fun _ => 0))), (q13, .inl (c13, 28, .inl (fun _ => 0))), (q14, .inl (c14, 14, .inl (fun _ => 0)))] := hD
  have hK : va_K D vwCl [(c1, .int), (c2, .int), (c3, .int), (c4, .int), (c5, .int), (c6, .int), (c7, .int), (c8, .boolean), (c9, .boolean), (c10, .int), (c11, .int), (c12, .int), (c13, .int), (c14, .int)] s := hK
  refine va_putF (D := D) (ci := 0) (v := .ref q14) (ty := .array .int) (C := RX0) (T := TX0) (N := 23) hx hb hts in_X0 tyX0 tyX0_ok nmX0 hown hK hP hD hS 0 rfl rfl 17 (by decide) (hts _ q55) (fun _ h9 => h9) rfl hin rfl (by decide +kernel) rfl rfl (Nat.le_of_ble_eq_true rfl) dX0_init_113 (fun H locs hP hD hS => ?_)
  have hP : va_P D vwCl [(h0, .inr (0, [.int 0, .ref q1, .ref q2, .ref q3, .ref q4, .ref q5, .ref q6, .ref q7, .ref q8, .int 0, .int 0, .ref q9, .ref q10, .ref q11, .ref q12, .int 0, .ref q13, .ref q14, .null, .null, .int 0, .null, .null])), (q1, .inl (c1, 14, .inl (fun _ => 0))), (q2, .inl (c2, 14, .inl (fun _ => 0))), (q3, .inl (c3, 14, .inl (fun _ => 0))), (q4, .inl (c4, 14, .inl (fun _ => 0))), (q5, .inl (c5, 14, .inl (fun _ => 0))), (q6, .inl (c6, 8, .inl (fun _ => 0))), (q7, .inl (c7, 16, .inl (fun _ => 0))), (q8, .inl (c8, 16, .inl (fun _ => 0))), (q9, .inl (c9, 28, .inl (fun _ => 0))), (q10, .inl (c10, 28, .inl (fun _ => 0))), (q11, .inl (c11, 28, .inl (fun _ => 0))), (q12, .inl (c12, 28, .inl (fun _ => 0))), (q13, .inl (c13, 28, .inl (fun _ => 0))), (q14, .inl (c14, 14, .inl (fun _ => 0)))] H := hP
  have hD : va_D A [(h0, .inr (0, [.int 0, .ref q1, .ref q2, .ref q3, .ref q4, .ref q5, .ref q6, .ref q7, .ref q8, .int 0, .int 0, .ref q9, .ref q10, .ref q11, .ref q12, .int 0, .ref q13, .ref q14, .null, .null, .int 0, .null, .null])), (q1, .inl (c1, 14, .inl (fun _ => 0))), (q2, .inl (c2, 14, .inl (fun _ => 0))), (q3, .inl (c3, 14, .inl (fun _ => 0))), (q4, .inl (c4, 14, .inl (fun _ => 0))), (q5, .inl (c5, 14, .inl (fun _ => 0))), (q6, .inl (c6, 8, .inl (fun _ => 0))), (q7, .inl (c7, 16, .inl (fun _ => 0))), (q8, .inl (c8, 16, .inl (fun _ => 0))), (q9, .inl (c9, 28, .inl (fun _ => 0))), (q10, .inl (c10, 28, .inl (fun _ => 0))), (q11, .inl (c11, 28, .inl (fun _ => 0))), (q12, .inl (c12, 28, .inl (fun _ => 0))), (q13, .inl (c13, 28, .inl (fun _ => 0))), (q14, .inl (c14, 14, .inl (fun _ => 0)))] := hD
  refine lv_aload_n hx hb dX0_init_116 rfl (lv_at hl 0 rfl) ?_
  refine lv_bipush (v := 14) hx hb dX0_init_117 (by decide) ?_
  refine va_newa (atype := .int) (ty := .int) (N' := 14) (a0 := (14, .inl (fun _ => 0))) hx hb (hts _ q108) rfl hK hP hD hS hA (fun cA => rfl) (by decide) (by decide) (by decide) (Nat.le_of_ble_eq_true rfl) (Nat.le_of_ble_eq_true rfl) dX0_init_119 (fun q15 c15 H hK hP hD hS => ?_)
  refine W.widen (k := 15) (n := 278) (Nat.le_of_ble_eq_true rfl) (Nat.le_of_ble_eq_true rfl) ?_
  have hP : va_P D vwCl [(h0, .inr (0, [.int 0, .ref q1, .ref q2, .ref q3, .ref q4, .ref q5, .ref q6, .ref q7, .ref q8, .int 0, .int 0, .ref q9, .ref q10, .ref q11, .ref q12, .int 0, .ref q13, .ref q14, .null, .null, .int 0, .null, .null])), (q1, .inl (c1, 14, .inl (fun _ => 0))), (q2, .inl (c2, 14, .inl (fun _ => 0))), (q3, .inl (c3, 14, .inl (fun _ => 0))), (q4, .inl (c4, 14, .inl (fun _ => 0))), (q5, .inl (c5, 14, .inl (fun _ => 0))), (q6, .inl (c6, 8, .inl (fun _ => 0))), (q7, .inl (c7, 16, .inl (fun _ => 0))), (q8, .inl (c8, 16, .inl (fun _ => 0))), (q9, .inl (c9, 28, .inl (fun _ => 0))), (q10, .inl (c10, 28, .inl (fun _ => 0))), (q11, .inl (c11, 28, .inl (fun _ => 0))), (q12, .inl (c12, 28, .inl (fun _ => 0))), (q13, .inl (c13, 28, .inl (fun _ => 0))), (q14, .inl (c14, 14, .inl (fun _ => 0))), (q15, .inl (c15, 14, .inl (fun _ => 0)))] H := hP
  have hD : va_D A [(h0, .inr (0, [.int 0, .ref q1, .ref q2, .ref q3, .ref q4, .ref q5, .ref q6, .ref q7, .ref q8, .int 0, .int 0, .ref q9, .ref q10, .ref q11, .ref q12, .int 0, .ref q13, .ref q14, .null, .null, .int 0, .null, .null])), (q1, .inl (c1, 14, .inl (fun _ => 0))), (q2, .inl (c2, 14, .inl (fun _ => 0))), (q3, .inl (c3, 14, .inl (fun _ => 0))), (q4, .inl (c4, 14, .inl (fun _ => 0))), (q5, .inl (c5, 14, .inl (fun _ => 0))), (q6, .inl (c6, 8, .inl (fun _ => 0))), (q7, .inl (c7, 16, .inl (fun _ => 0))), (q8, .inl (c8, 16, .inl (fun _ => 0))), (q9, .inl (c9, 28, .inl (fun _ => 0))), (q10, .inl (c10, 28, .inl (fun _ => 0))), (q11, .inl (c11, 28, .inl (fun _ => 0))), (q12, .inl (c12, 28, .inl (fun _ => 0))), (q13, .inl (c13, 28, .inl (fun _ => 0))), (q14, .inl (c14, 14, .inl (fun _ => 0))), (q15, .inl (c15, 14, .inl (fun _ => 0)))] := hD
  have hK : va_K D vwCl [(c1, .int), (c2, .int), (c3, .int), (c4, .int), (c5, .int), (c6, .int), (c7, .int), (c8, .boolean), (c9, .boolean), (c10, .int), (c11, .int), (c12, .int), (c13, .int), (c14, .int), (c15, .int)] s := hK
  refine va_putF (D := D) (ci := 0) (v := .ref q15) (ty := .array .int) (C := RX0) (T := TX0) (N := 23) hx hb hts in_X0 tyX0 tyX0_ok nmX0 hown hK hP hD hS 0 rfl rfl 18 (by decide) (hts _ q56) (fun _ h9 => h9) rfl hin rfl (by decide +kernel) rfl rfl (Nat.le_of_ble_eq_true rfl) dX0_init_121 (fun H locs hP hD hS => ?_)
  have hP : va_P D vwCl [(h0, .inr (0, [.int 0, .ref q1, .ref q2, .ref q3, .ref q4, .ref q5, .ref q6, .ref q7, .ref q8, .int 0, .int 0, .ref q9, .ref q10, .ref q11, .ref q12, .int 0, .ref q13, .ref q14, .ref q15, .null, .int 0, .null, .null])), (q1, .inl (c1, 14, .inl (fun _ => 0))), (q2, .inl (c2, 14, .inl (fun _ => 0))), (q3, .inl (c3, 14, .inl (fun _ => 0))), (q4, .inl (c4, 14, .inl (fun _ => 0))), (q5, .inl (c5, 14, .inl (fun _ => 0))), (q6, .inl (c6, 8, .inl (fun _ => 0))), (q7, .inl (c7, 16, .inl (fun _ => 0))), (q8, .inl (c8, 16, .inl (fun _ => 0))), (q9, .inl (c9, 28, .inl (fun _ => 0))), (q10, .inl (c10, 28, .inl (fun _ => 0))), (q11, .inl (c11, 28, .inl (fun _ => 0))), (q12, .inl (c12, 28, .inl (fun _ => 0))), (q13, .inl (c13, 28, .inl (fun _ => 0))), (q14, .inl (c14, 14, .inl (fun _ => 0))), (q15, .inl (c15, 14, .inl (fun _ => 0)))] H := hP
  have hD : va_D A [(h0, .inr (0, [.int 0, .ref q1, .ref q2, .ref q3, .ref q4, .ref q5, .ref q6, .ref q7, .ref q8, .int 0, .int 0, .ref q9, .ref q10, .ref q11, .ref q12, .int 0, .ref q13, .ref q14, .ref q15, .null, .int 0, .null, .null])), (q1, .inl (c1, 14, .inl (fun _ => 0))), (q2, .inl (c2, 14, .inl (fun _ => 0))), (q3, .inl (c3, 14, .inl (fun _ => 0))), (q4, .inl (c4, 14, .inl (fun _ => 0))), (q5, .inl (c5, 14, .inl (fun _ => 0))), (q6, .inl (c6, 8, .inl (fun _ => 0))), (q7, .inl (c7, 16, .inl (fun _ => 0))), (q8, .inl (c8, 16, .inl (fun _ => 0))), (q9, .inl (c9, 28, .inl (fun _ => 0))), (q10, .inl (c10, 28, .inl (fun _ => 0))), (q11, .inl (c11, 28, .inl (fun _ => 0))), (q12, .inl (c12, 28, .inl (fun _ => 0))), (q13, .inl (c13, 28, .inl (fun _ => 0))), (q14, .inl (c14, 14, .inl (fun _ => 0))), (q15, .inl (c15, 14, .inl (fun _ => 0)))] := hD
  refine lv_aload_n hx hb dX0_init_124 rfl (lv_at hl 0 rfl) ?_
  refine lv_bipush (v := 14) hx hb dX0_init_125 (by decide) ?_
  refine va_newa (atype := .boolean) (ty := .boolean) (N' := 14) (a0 := (14, .inl (fun _ => 0))) hx hb (hts _ q109) rfl hK hP hD hS hA (fun cA => rfl) (by decide) (by decide) (by decide) (Nat.le_of_ble_eq_true rfl) (Nat.le_of_ble_eq_true rfl) dX0_init_127 (fun q16 c16 H hK hP hD hS => ?_)
  refine W.widen (k := 16) (n := 292) (Nat.le_of_ble_eq_true rfl) (Nat.le_of_ble_eq_true rfl) ?_
  have hP : va_P D vwCl [(h0, .inr (0, [.int 0, .ref q1, .ref q2, .ref q3, .ref q4, .ref q5, .ref q6, .ref q7, .ref q8, .int 0, .int 0, .ref q9, .ref q10, .ref q11, .ref q12, .int 0, .ref q13, .ref q14, .ref q15, .null, .int 0, .null, .null])), (q1, .inl (c1, 14, .inl (fun _ => 0))), (q2, .inl (c2, 14, .inl (fun _ => 0))), (q3, .inl (c3, 14, .inl (fun _ => 0))), (q4, .inl (c4, 14, .inl (fun _ => 0))), (q5, .inl (c5, 14, .inl (fun _ => 0))), (q6, .inl (c6, 8, .inl (fun _ => 0))), (q7, .inl (c7, 16, .inl (fun _ => 0))), (q8, .inl (c8, 16, .inl (fun _ => 0))), (q9, .inl (c9, 28, .inl (fun _ => 0))), (q10, .inl (c10, 28, .inl (fun _ => 0))), (q11, .inl (c11, 28, .inl (fun _ => 0))), (q12, .inl (c12, 28, .inl (fun _ => 0))), (q13, .inl (c13, 28, .inl (fun _ => 0))), (q14, .inl (c14, 14, .inl (fun _ => 0))), (q15, .inl (c15, 14, .inl (fun _ => 0))), (q16, .inl (c16, 14, .inl (fun _ => 0)))] H := hP
  have hD : va_D A [(h0, .inr (0, [.int 0, .ref q1, .ref q2, .ref q3, .ref q4, .ref q5, .ref q6, .ref q7, .ref q8, .int 0, .int 0, .ref q9, .ref q10, .ref q11, .ref q12, .int 0, .ref q13, .ref q14, .ref q15, .null, .int 0, .null, .null])), (q1, .inl (c1, 14, .inl (fun _ => 0))), (q2, .inl (c2, 14, .inl (fun _ => 0))), (q3, .inl (c3, 14, .inl (fun _ => 0))), (q4, .inl (c4, 14, .inl (fun _ => 0))), (q5, .inl (c5, 14, .inl (fun _ => 0))), (q6, .inl (c6, 8, .inl (fun _ => 0))), (q7, .inl (c7, 16, .inl (fun _ => 0))), (q8, .inl (c8, 16, .inl (fun _ => 0))), (q9, .inl (c9, 28, .inl (fun _ => 0))), (q10, .inl (c10, 28, .inl (fun _ => 0))), (q11, .inl (c11, 28, .inl (fun _ => 0))), (q12, .inl (c12, 28, .inl (fun _ => 0))), (q13, .inl (c13, 28, .inl (fun _ => 0))), (q14, .inl (c14, 14, .inl (fun _ => 0))), (q15, .inl (c15, 14, .inl (fun _ => 0))), (q16, .inl (c16, 14, .inl (fun _ => 0)))] := hD
  have hK : va_K D vwCl [(c1, .int), (c2, .int), (c3, .int), (c4, .int), (c5, .int), (c6, .int), (c7, .int), (c8, .boolean), (c9, .boolean), (c10, .int), (c11, .int), (c12, .int), (c13, .int), (c14, .int), (c15, .int), (c16, .boolean)] s := hK
  refine va_putF (D := D) (ci := 0) (v := .ref q16) (ty := .array .boolean) (C := RX0) (T := TX0) (N := 23) hx hb hts in_X0 tyX0 tyX0_ok nmX0 hown hK hP hD hS 0 rfl rfl 19 (by decide) (hts _ q57) (fun _ h9 => h9) rfl hin rfl (by decide +kernel) rfl rfl (Nat.le_of_ble_eq_true rfl) dX0_init_129 (fun H locs hP hD hS => ?_)
  have hP : va_P D vwCl [(h0, .inr (0, [.int 0, .ref q1, .ref q2, .ref q3, .ref q4, .ref q5, .ref q6, .ref q7, .ref q8, .int 0, .int 0, .ref q9, .ref q10, .ref q11, .ref q12, .int 0, .ref q13, .ref q14, .ref q15, .ref q16, .int 0, .null, .null])), (q1, .inl (c1, 14, .inl (fun _ => 0))), (q2, .inl (c2, 14, .inl (fun _ => 0))), (q3, .inl (c3, 14, .inl (fun _ => 0))), (q4, .inl (c4, 14, .inl (fun _ => 0))), (q5, .inl (c5, 14, .inl (fun _ => 0))), (q6, .inl (c6, 8, .inl (fun _ => 0))), (q7, .inl (c7, 16, .inl (fun _ => 0))), (q8, .inl (c8, 16, .inl (fun _ => 0))), (q9, .inl (c9, 28, .inl (fun _ => 0))), (q10, .inl (c10, 28, .inl (fun _ => 0))), (q11, .inl (c11, 28, .inl (fun _ => 0))), (q12, .inl (c12, 28, .inl (fun _ => 0))), (q13, .inl (c13, 28, .inl (fun _ => 0))), (q14, .inl (c14, 14, .inl (fun _ => 0))), (q15, .inl (c15, 14, .inl (fun _ => 0))), (q16, .inl (c16, 14, .inl (fun _ => 0)))] H := hP
  have hD : va_D A [(h0, .inr (0, [.int 0, .ref q1, .ref q2, .ref q3, .ref q4, .ref q5, .ref q6, .ref q7, .ref q8, .int 0, .int 0, .ref q9, .ref q10, .ref q11, .ref q12, .int 0, .ref q13, .ref q14, .ref q15, .ref q16, .int 0, .null, .null])), (q1, .inl (c1, 14, .inl (fun _ => 0))), (q2, .inl (c2, 14, .inl (fun _ => 0))), (q3, .inl (c3, 14, .inl (fun _ => 0))), (q4, .inl (c4, 14, .inl (fun _ => 0))), (q5, .inl (c5, 14, .inl (fun _ => 0))), (q6, .inl (c6, 8, .inl (fun _ => 0))), (q7, .inl (c7, 16, .inl (fun _ => 0))), (q8, .inl (c8, 16, .inl (fun _ => 0))), (q9, .inl (c9, 28, .inl (fun _ => 0))), (q10, .inl (c10, 28, .inl (fun _ => 0))), (q11, .inl (c11, 28, .inl (fun _ => 0))), (q12, .inl (c12, 28, .inl (fun _ => 0))), (q13, .inl (c13, 28, .inl (fun _ => 0))), (q14, .inl (c14, 14, .inl (fun _ => 0))), (q15, .inl (c15, 14, .inl (fun _ => 0))), (q16, .inl (c16, 14, .inl (fun _ => 0)))] := hD
  refine lv_aload_n hx hb dX0_init_132 rfl (lv_at hl 0 rfl) ?_
  refine lv_iconst (v := 4) hx hb dX0_init_133 (by decide) ?_
  refine va_newa (atype := .int) (ty := .int) (N' := 4) (a0 := (4, .inl (fun _ => 0))) hx hb (hts _ q108) rfl hK hP hD hS hA (fun cA => rfl) (by decide) (by decide) (by decide) (Nat.le_of_ble_eq_true rfl) (Nat.le_of_ble_eq_true rfl) dX0_init_134 (fun q17 c17 H hK hP hD hS => ?_)
  refine W.widen (k := 17) (n := 296) (Nat.le_of_ble_eq_true rfl) (Nat.le_of_ble_eq_true rfl) ?_
  have hP : va_P D vwCl [(h0, .inr (0, [.int 0, .ref q1, .ref q2, .ref q3, .ref q4, .ref q5, .ref q6, .ref q7, .ref q8, .int 0, .int 0, .ref q9, .ref q10, .ref q11, .ref q12, .int 0, .ref q13, .ref q14, .ref q15, .ref q16, .int 0, .null, .null])), (q1, .inl (c1, 14, .inl (fun _ => 0))), (q2, .inl (c2, 14, .inl (fun _ => 0))), (q3, .inl (c3, 14, .inl (fun _ => 0))), (q4, .inl (c4, 14, .inl (fun _ => 0))), (q5, .inl (c5, 14, .inl (fun _ => 0))), (q6, .inl (c6, 8, .inl (fun _ => 0))), (q7, .inl (c7, 16, .inl (fun _ => 0))), (q8, .inl (c8, 16, .inl (fun _ => 0))), (q9, .inl (c9, 28, .inl (fun _ => 0))), (q10, .inl (c10, 28, .inl (fun _ => 0))), (q11, .inl (c11, 28, .inl (fun _ => 0))), (q12, .inl (c12, 28, .inl (fun _ => 0))), (q13, .inl (c13, 28, .inl (fun _ => 0))), (q14, .inl (c14, 14, .inl (fun _ => 0))), (q15, .inl (c15, 14, .inl (fun _ => 0))), (q16, .inl (c16, 14, .inl (fun _ => 0))), (q17, .inl (c17, 4, .inl (fun _ => 0)))] H := hP
  have hD : va_D A [(h0, .inr (0, [.int 0, .ref q1, .ref q2, .ref q3, .ref q4, .ref q5, .ref q6, .ref q7, .ref q8, .int 0, .int 0, .ref q9, .ref q10, .ref q11, .ref q12, .int 0, .ref q13, .ref q14, .ref q15, .ref q16, .int 0, .null, .null])), (q1, .inl (c1, 14, .inl (fun _ => 0))), (q2, .inl (c2, 14, .inl (fun _ => 0))), (q3, .inl (c3, 14, .inl (fun _ => 0))), (q4, .inl (c4, 14, .inl (fun _ => 0))), (q5, .inl (c5, 14, .inl (fun _ => 0))), (q6, .inl (c6, 8, .inl (fun _ => 0))), (q7, .inl (c7, 16, .inl (fun _ => 0))), (q8, .inl (c8, 16, .inl (fun _ => 0))), (q9, .inl (c9, 28, .inl (fun _ => 0))), (q10, .inl (c10, 28, .inl (fun _ => 0))), (q11, .inl (c11, 28, .inl (fun _ => 0))), (q12, .inl (c12, 28, .inl (fun _ => 0))), (q13, .inl (c13, 28, .inl (fun _ => 0))), (q14, .inl (c14, 14, .inl (fun _ => 0))), (q15, .inl (c15, 14, .inl (fun _ => 0))), (q16, .inl (c16, 14, .inl (fun _ => 0))), (q17, .inl (c17, 4, .inl (fun _ => 0)))] := hD
  have hK : va_K D vwCl [(c1, .int), (c2, .int), (c3, .int), (c4, .int), (c5, .int), (c6, .int), (c7, .int), (c8, .boolean), (c9, .boolean), (c10, .int), (c11, .int), (c12, .int), (c13, .int), (c14, .int), (c15, .int), (c16, .boolean), (c17, .int)] s := hK
  refine va_putF (D := D) (ci := 0) (v := .ref q17) (ty := .array .int) (C := RX0) (T := TX0) (N := 23) hx hb hts in_X0 tyX0 tyX0_ok nmX0 hown hK hP hD hS 0 rfl rfl 21 (by decide) (hts _ q59) (fun _ h9 => h9) rfl hin rfl (by decide +kernel) rfl rfl (Nat.le_of_ble_eq_true rfl) dX0_init_136 (fun H locs hP hD hS => ?_)
  have hP : va_P D vwCl [(h0, .inr (0, [.int 0, .ref q1, .ref q2, .ref q3, .ref q4, .ref q5, .ref q6, .ref q7, .ref q8, .int 0, .int 0, .ref q9, .ref q10, .ref q11, .ref q12, .int 0, .ref q13, .ref q14, .ref q15, .ref q16, .int 0, .ref q17, .null])), (q1, .inl (c1, 14, .inl (fun _ => 0))), (q2, .inl (c2, 14, .inl (fun _ => 0))), (q3, .inl (c3, 14, .inl (fun _ => 0))), (q4, .inl (c4, 14, .inl (fun _ => 0))), (q5, .inl (c5, 14, .inl (fun _ => 0))), (q6, .inl (c6, 8, .inl (fun _ => 0))), (q7, .inl (c7, 16, .inl (fun _ => 0))), (q8, .inl (c8, 16, .inl (fun _ => 0))), (q9, .inl (c9, 28, .inl (fun _ => 0))), (q10, .inl (c10, 28, .inl (fun _ => 0))), (q11, .inl (c11, 28, .inl (fun _ => 0))), (q12, .inl (c12, 28, .inl (fun _ => 0))), (q13, .inl (c13, 28, .inl (fun _ => 0))), (q14, .inl (c14, 14, .inl (fun _ => 0))), (q15, .inl (c15, 14, .inl (fun _ => 0))), (q16, .inl (c16, 14, .inl (fun _ => 0))), (q17, .inl (c17, 4, .inl (fun _ => 0)))] H := hP
  have hD : va_D A [(h0, .inr (0, [.int 0, .ref q1, .ref q2, .ref q3, .ref q4, .ref q5, .ref q6, .ref q7, .ref q8, .int 0, .int 0, .ref q9, .ref q10, .ref q11, .ref q12, .int 0, .ref q13, .ref q14, .ref q15, .ref q16, .int 0, .ref q17, .null])), (q1, .inl (c1, 14, .inl (fun _ => 0))), (q2, .inl (c2, 14, .inl (fun _ => 0))), (q3, .inl (c3, 14, .inl (fun _ => 0))), (q4, .inl (c4, 14, .inl (fun _ => 0))), (q5, .inl (c5, 14, .inl (fun _ => 0))), (q6, .inl (c6, 8, .inl (fun _ => 0))), (q7, .inl (c7, 16, .inl (fun _ => 0))), (q8, .inl (c8, 16, .inl (fun _ => 0))), (q9, .inl (c9, 28, .inl (fun _ => 0))), (q10, .inl (c10, 28, .inl (fun _ => 0))), (q11, .inl (c11, 28, .inl (fun _ => 0))), (q12, .inl (c12, 28, .inl (fun _ => 0))), (q13, .inl (c13, 28, .inl (fun _ => 0))), (q14, .inl (c14, 14, .inl (fun _ => 0))), (q15, .inl (c15, 14, .inl (fun _ => 0))), (q16, .inl (c16, 14, .inl (fun _ => 0))), (q17, .inl (c17, 4, .inl (fun _ => 0)))] := hD
  refine lv_aload_n hx hb dX0_init_139 rfl (lv_at hl 0 rfl) ?_
  refine lv_iconst (v := 4) hx hb dX0_init_140 (by decide) ?_
  refine va_newa (atype := .int) (ty := .int) (N' := 4) (a0 := (4, .inl (fun _ => 0))) hx hb (hts _ q108) rfl hK hP hD hS hA (fun cA => rfl) (by decide) (by decide) (by decide) (Nat.le_of_ble_eq_true rfl) (Nat.le_of_ble_eq_true rfl) dX0_init_141 (fun q18 c18 H hK hP hD hS => ?_)
  refine W.widen (k := 18) (n := 300) (Nat.le_of_ble_eq_true rfl) (Nat.le_of_ble_eq_true rfl) ?_
  have hP : va_P D vwCl [(h0, .inr (0, [.int 0, .ref q1, .ref q2, .ref q3, .ref q4, .ref q5, .ref q6, .ref q7, .ref q8, .int 0, .int 0, .ref q9, .ref q10, .ref q11, .ref q12, .int 0, .ref q13, .ref q14, .ref q15, .ref q16, .int 0, .ref q17, .null])), (q1, .inl (c1, 14, .inl (fun _ => 0))), (q2, .inl (c2, 14, .inl (fun _ => 0))), (q3, .inl (c3, 14, .inl (fun _ => 0))), (q4, .inl (c4, 14, .inl (fun _ => 0))), (q5, .inl (c5, 14, .inl (fun _ => 0))), (q6, .inl (c6, 8, .inl (fun _ => 0))), (q7, .inl (c7, 16, .inl (fun _ => 0))), (q8, .inl (c8, 16, .inl (fun _ => 0))), (q9, .inl (c9, 28, .inl (fun _ => 0))), (q10, .inl (c10, 28, .inl (fun _ => 0))), (q11, .inl (c11, 28, .inl (fun _ => 0))), (q12, .inl (c12, 28, .inl (fun _ => 0))), (q13, .inl (c13, 28, .inl (fun _ => 0))), (q14, .inl (c14, 14, .inl (fun _ => 0))), (q15, .inl (c15, 14, .inl (fun _ => 0))), (q16, .inl (c16, 14, .inl (fun _ => 0))), (q17, .inl (c17, 4, .inl (fun _ => 0))), (q18, .inl (c18, 4, .inl (fun _ => 0)))] H := hP
  have hD : va_D A [(h0, .inr (0, [.int 0, .ref q1, .ref q2, .ref q3, .ref q4, .ref q5, .ref q6, .ref q7, .ref q8, .int 0, .int 0, .ref q9, .ref q10, .ref q11, .ref q12, .int 0, .ref q13, .ref q14, .ref q15, .ref q16, .int 0, .ref q17, .null])), (q1, .inl (c1, 14, .inl (fun _ => 0))), (q2, .inl (c2, 14, .inl (fun _ => 0))), (q3, .inl (c3, 14, .inl (fun _ => 0))), (q4, .inl (c4, 14, .inl (fun _ => 0))), (q5, .inl (c5, 14, .inl (fun _ => 0))), (q6, .inl (c6, 8, .inl (fun _ => 0))), (q7, .inl (c7, 16, .inl (fun _ => 0))), (q8, .inl (c8, 16, .inl (fun _ => 0))), (q9, .inl (c9, 28, .inl (fun _ => 0))), (q10, .inl (c10, 28, .inl (fun _ => 0))), (q11, .inl (c11, 28, .inl (fun _ => 0))), (q12, .inl (c12, 28, .inl (fun _ => 0))), (q13, .inl (c13, 28, .inl (fun _ => 0))), (q14, .inl (c14, 14, .inl (fun _ => 0))), (q15, .inl (c15, 14, .inl (fun _ => 0))), (q16, .inl (c16, 14, .inl (fun _ => 0))), (q17, .inl (c17, 4, .inl (fun _ => 0))), (q18, .inl (c18, 4, .inl (fun _ => 0)))] := hD
  have hK : va_K D vwCl [(c1, .int), (c2, .int), (c3, .int), (c4, .int), (c5, .int), (c6, .int), (c7, .int), (c8, .boolean), (c9, .boolean), (c10, .int), (c11, .int), (c12, .int), (c13, .int), (c14, .int), (c15, .int), (c16, .boolean), (c17, .int), (c18, .int)] s := hK
  refine va_putF (D := D) (ci := 0) (v := .ref q18) (ty := .array .int) (C := RX0) (T := TX0) (N := 23) hx hb hts in_X0 tyX0 tyX0_ok nmX0 hown hK hP hD hS 0 rfl rfl 22 (by decide) (hts _ q60) (fun _ h9 => h9) rfl hin rfl (by decide +kernel) rfl rfl (Nat.le_of_ble_eq_true rfl) dX0_init_143 (fun H locs hP hD hS => ?_)
  have hP : va_P D vwCl [(h0, .inr (0, [.int 0, .ref q1, .ref q2, .ref q3, .ref q4, .ref q5, .ref q6, .ref q7, .ref q8, .int 0, .int 0, .ref q9, .ref q10, .ref q11, .ref q12, .int 0, .ref q13, .ref q14, .ref q15, .ref q16, .int 0, .ref q17, .ref q18])), (q1, .inl (c1, 14, .inl (fun _ => 0))), (q2, .inl (c2, 14, .inl (fun _ => 0))), (q3, .inl (c3, 14, .inl (fun _ => 0))), (q4, .inl (c4, 14, .inl (fun _ => 0))), (q5, .inl (c5, 14, .inl (fun _ => 0))), (q6, .inl (c6, 8, .inl (fun _ => 0))), (q7, .inl (c7, 16, .inl (fun _ => 0))), (q8, .inl (c8, 16, .inl (fun _ => 0))), (q9, .inl (c9, 28, .inl (fun _ => 0))), (q10, .inl (c10, 28, .inl (fun _ => 0))), (q11, .inl (c11, 28, .inl (fun _ => 0))), (q12, .inl (c12, 28, .inl (fun _ => 0))), (q13, .inl (c13, 28, .inl (fun _ => 0))), (q14, .inl (c14, 14, .inl (fun _ => 0))), (q15, .inl (c15, 14, .inl (fun _ => 0))), (q16, .inl (c16, 14, .inl (fun _ => 0))), (q17, .inl (c17, 4, .inl (fun _ => 0))), (q18, .inl (c18, 4, .inl (fun _ => 0)))] H := hP
  have hD : va_D A [(h0, .inr (0, [.int 0, .ref q1, .ref q2, .ref q3, .ref q4, .ref q5, .ref q6, .ref q7, .ref q8, .int 0, .int 0, .ref q9, .ref q10, .ref q11, .ref q12, .int 0, .ref q13, .ref q14, .ref q15, .ref q16, .int 0, .ref q17, .ref q18])), (q1, .inl (c1, 14, .inl (fun _ => 0))), (q2, .inl (c2, 14, .inl (fun _ => 0))), (q3, .inl (c3, 14, .inl (fun _ => 0))), (q4, .inl (c4, 14, .inl (fun _ => 0))), (q5, .inl (c5, 14, .inl (fun _ => 0))), (q6, .inl (c6, 8, .inl (fun _ => 0))), (q7, .inl (c7, 16, .inl (fun _ => 0))), (q8, .inl (c8, 16, .inl (fun _ => 0))), (q9, .inl (c9, 28, .inl (fun _ => 0))), (q10, .inl (c10, 28, .inl (fun _ => 0))), (q11, .inl (c11, 28, .inl (fun _ => 0))), (q12, .inl (c12, 28, .inl (fun _ => 0))), (q13, .inl (c13, 28, .inl (fun _ => 0))), (q14, .inl (c14, 14, .inl (fun _ => 0))), (q15, .inl (c15, 14, .inl (fun _ => 0))), (q16, .inl (c16, 14, .inl (fun _ => 0))), (q17, .inl (c17, 4, .inl (fun _ => 0))), (q18, .inl (c18, 4, .inl (fun _ => 0)))] := hD
  refine lv_aload_n hx hb dX0_init_146 rfl (lv_at hl 0 rfl) ?_
  refine lv_iconst (v := (-1)) hx hb dX0_init_147 (by decide) ?_
  refine va_put (D := D) (ci := 0) (v := .int (-1)) (ty := .int) (C := RX0) (T := TX0) (N := 23) hx hb hts in_X0 tyX0 tyX0_ok nmX0 hown hK hP hD hS 0 rfl rfl 9 (by decide) (hts _ q47) (fun _ h9 => h9) rfl (by decide +kernel) rfl rfl (Nat.le_of_ble_eq_true rfl) dX0_init_148 (fun H locs hP hD hS => ?_)
  have hP : va_P D vwCl [(h0, .inr (0, [.int 0, .ref q1, .ref q2, .ref q3, .ref q4, .ref q5, .ref q6, .ref q7, .ref q8, .int (-1), .int 0, .ref q9, .ref q10, .ref q11, .ref q12, .int 0, .ref q13, .ref q14, .ref q15, .ref q16, .int 0, .ref q17, .ref q18])), (q1, .inl (c1, 14, .inl (fun _ => 0))), (q2, .inl (c2, 14, .inl (fun _ => 0))), (q3, .inl (c3, 14, .inl (fun _ => 0))), (q4, .inl (c4, 14, .inl (fun _ => 0))), (q5, .inl (c5, 14, .inl (fun _ => 0))), (q6, .inl (c6, 8, .inl (fun _ => 0))), (q7, .inl (c7, 16, .inl (fun _ => 0))), (q8, .inl (c8, 16, .inl (fun _ => 0))), (q9, .inl (c9, 28, .inl (fun _ => 0))), (q10, .inl (c10, 28, .inl (fun _ => 0))), (q11, .inl (c11, 28, .inl (fun _ => 0))), (q12, .inl (c12, 28, .inl (fun _ => 0))), (q13, .inl (c13, 28, .inl (fun _ => 0))), (q14, .inl (c14, 14, .inl (fun _ => 0))), (q15, .inl (c15, 14, .inl (fun _ => 0))), (q16, .inl (c16, 14, .inl (fun _ => 0))), (q17, .inl (c17, 4, .inl (fun _ => 0))), (q18, .inl (c18, 4, .inl (fun _ => 0)))] H := hP
  have hD : va_D A [(h0, .inr (0, [.int 0, .ref q1, .ref q2, .ref q3, .ref q4, .ref q5, .ref q6, .ref q7, .ref q8, .int (-1), .int 0, .ref q9, .ref q10, .ref q11, .ref q12, .int 0, .ref q13, .ref q14, .ref q15, .ref q16, .int 0, .ref q17, .ref q18])), (q1, .inl (c1, 14, .inl (fun _ => 0))), (q2, .inl (c2, 14, .inl (fun _ => 0))), (q3, .inl (c3, 14, .inl (fun _ => 0))), (q4, .inl (c4, 14, .inl (fun _ => 0))), (q5, .inl (c5, 14, .inl (fun _ => 0))), (q6, .inl (c6, 8, .inl (fun _ => 0))), (q7, .inl (c7, 16, .inl (fun _ => 0))), (q8, .inl (c8, 16, .inl (fun _ => 0))), (q9, .inl (c9, 28, .inl (fun _ => 0))), (q10, .inl (c10, 28, .inl (fun _ => 0))), (q11, .inl (c11, 28, .inl (fun _ => 0))), (q12, .inl (c12, 28, .inl (fun _ => 0))), (q13, .inl (c13, 28, .inl (fun _ => 0))), (q14, .inl (c14, 14, .inl (fun _ => 0))), (q15, .inl (c15, 14, .inl (fun _ => 0))), (q16, .inl (c16, 14, .inl (fun _ => 0))), (q17, .inl (c17, 4, .inl (fun _ => 0))), (q18, .inl (c18, 4, .inl (fun _ => 0)))] := hD
  exact W.vret hx hb hr (fun t ht hW => ⟨⟨(), rfl, trivial, (fun k => ([0, q1, q2, q3, q4, q5, q6, q7, q8, 0, 0, q9, q10, q11, q12, 0, q13, q14, q15, q16, 0, q17, q18] : List Nat).getD k 0), (fun k => ([c1, c1, c2, c3, c4, c5, c6, c7, c8, c1, c1, c9, c10, c11, c12, c1, c13, c14, c15, c16, c1, c17, c18] : List ClassId).getD k c1), by rw [ht]; exact hP, va_K.moved hW.alike hK, hD⟩, hS.F ht⟩) hS.2.2 dX0_init_151

set_option maxHeartbeats 4000000 in
set_option maxRecDepth 100000 in
theorem n_init (l : Launch) (D : va_G) (h0 sz : Nat) : Met l yX1_init (ws_ yX1_init cX1_init 1 none) ({ frames := 1, cells := 7, slots := 96, locals := 12 }) (va_Pc [.ref h0] (fun U => U.heap.size = sz ∧ va_P D vwCl [(h0, .inr (1, [.null, .null, .null, .null, .int 0, .null, .null, .null, .int 0]))] U.heap ∧ va_K D vwCl [] U ∧ va_D (fun _ => True) [(h0, .inr (1, [.null, .null, .null, .null, .int 0, .null, .null, .null, .int 0]))])) (va_Qv (fun _ : Unit => True) (fun _ t => ∃ (ad : Nat → Nat) (cs : Nat → ClassId), va_P D vwCl (wM h0 ad cs zM0) t.heap ∧ va_K D vwCl (tyM cs) t ∧ va_D (va_A [(h0, .inr (1, [.null, .null, .null, .null, .int 0, .null, .null, .null, .int 0]))] sz) (wM h0 ad cs zM0)) (va_A [(h0, .inr (1, [.null, .null, .null, .null, .int 0, .null, .null, .null, .int 0]))] sz)) 7 96 (va_A [(h0, .inr (1, [.null, .null, .null, .null, .int 0, .null, .null, .null, .int 0]))] sz) := by
  refine Met.ofW (cc := cX1_init) (maxL := 1) (ret := none) (by decide) rfl ?_
  intro p e s m args below meth c s₁ B hml hv
  obtain ⟨rfl, hsz, hP, hK, hD0⟩ := hv
  have hx := B.exec
  have hb := B.bytes
  have hr := B.returns
  have hts := atoms_spec (ws := ws_ yX1_init cX1_init 1 none) B.pre
  have hts : ∀ w ∈ lw_all, w.before _ s = true := fun w h => hts w (List.mem_cons_of_mem _ h)
  have hown : s.vm.findClass RX1 = some m.cls := findClass_of_methodNamed B.named
  have hlocks := B.notSynchronized
  have hin : meth.name = "<init>" := (name_of_methodNamed B.named B.method).1
  subst hsz
  have hD := hD0.self (sz := s.heap.size)
  generalize hAe : va_A [(h0, .inr (1, [.null, .null, .null, .null, .int 0, .null, .null, .null, .int 0]))] s.heap.size = A at hD ⊢
  have hA : ∀ q : Nat, s.heap.size ≤ q → A q := fun q h => by rw [← hAe]; exact Or.inr h
  have hS : va_S A s.heap s.heap [] := va_S.rf
  have hl := lv_entry ([.ref h0]) (n := 1) (Nat.le_of_ble_eq_true rfl)
  rw [lg_entry_eq]
  generalize (lg_sl ([.ref h0]) ++ List.replicate (1 - (lg_sl ([.ref h0])).length) Slot.unset).toArray = ls at hl ⊢
  have hl : lv_has ls 1 [(0, .ref h0)] := hl
  refine lv_aload_n hx hb dX1_init_0 rfl (lv_at hl 0 rfl) ?_
  refine W.objInit hx hb hown (hts _ q272) (hts _ q36) (hts _ q37) rfl (by rw [hml]; exact hl.1) rfl dX1_init_1 (Nat.le_of_ble_eq_true rfl) (Nat.le_of_ble_eq_true rfl) ?_
  refine W.eq (g2 := F0 m 4 ls []) rfl ?_
  refine lv_aload_n hx hb dX1_init_4 rfl (lv_at hl 0 rfl) ?_
  refine lv_bipush (v := 14) hx hb dX1_init_5 (by decide) ?_
  refine va_newa (atype := .int) (ty := .int) (N' := 14) (a0 := (14, .inl (fun _ => 0))) hx hb (hts _ q108) rfl hK hP hD hS hA (fun cA => rfl) (by decide) (by decide) (by decide) (Nat.le_of_ble_eq_true rfl) (Nat.le_of_ble_eq_true rfl) dX1_init_7 (fun q1 c1 H hK hP hD hS => ?_)
  refine W.widen (k := 1) (n := 14) (Nat.le_of_ble_eq_true rfl) (Nat.le_of_ble_eq_true rfl) ?_
  have hP : va_P D vwCl [(h0, .inr (1, [.null, .null, .null, .null, .int 0, .null, .null, .null, .int 0])), (q1, .inl (c1, 14, .inl (fun _ => 0)))] H := hP
  have hD : va_D A [(h0, .inr (1, [.null, .null, .null, .null, .int 0, .null, .null, .null, .int 0])), (q1, .inl (c1, 14, .inl (fun _ => 0)))] := hD
  have hK : va_K D vwCl [(c1, .int)] s := hK
  refine va_putF (D := D) (ci := 1) (v := .ref q1) (ty := .array .int) (C := RX1) (T := TX1) (N := 9) hx hb hts in_X1 tyX1 tyX1_ok nmX1 hown hK hP hD hS 0 rfl rfl 0 (by decide) (hts _ q273) (fun _ h9 => h9) rfl hin rfl (by decide +kernel) rfl rfl (Nat.le_of_ble_eq_true rfl) dX1_init_9 (fun H locs hP hD hS => ?_)
  have hP : va_P D vwCl [(h0, .inr (1, [.ref q1, .null, .null, .null, .int 0, .null, .null, .null, .int 0])), (q1, .inl (c1, 14, .inl (fun _ => 0)))] H := hP
  have hD : va_D A [(h0, .inr (1, [.ref q1, .null, .null, .null, .int 0, .null, .null, .null, .int 0])), (q1, .inl (c1, 14, .inl (fun _ => 0)))] := hD
  refine lv_aload_n hx hb dX1_init_12 rfl (lv_at hl 0 rfl) ?_
  refine lv_bipush (v := 14) hx hb dX1_init_13 (by decide) ?_
  refine va_newa (atype := .int) (ty := .int) (N' := 14) (a0 := (14, .inl (fun _ => 0))) hx hb (hts _ q108) rfl hK hP hD hS hA (fun cA => rfl) (by decide) (by decide) (by decide) (Nat.le_of_ble_eq_true rfl) (Nat.le_of_ble_eq_true rfl) dX1_init_15 (fun q2 c2 H hK hP hD hS => ?_)
  refine W.widen (k := 2) (n := 28) (Nat.le_of_ble_eq_true rfl) (Nat.le_of_ble_eq_true rfl) ?_
  have hP : va_P D vwCl [(h0, .inr (1, [.ref q1, .null, .null, .null, .int 0, .null, .null, .null, .int 0])), (q1, .inl (c1, 14, .inl (fun _ => 0))), (q2, .inl (c2, 14, .inl (fun _ => 0)))] H := hP
  have hD : va_D A [(h0, .inr (1, [.ref q1, .null, .null, .null, .int 0, .null, .null, .null, .int 0])), (q1, .inl (c1, 14, .inl (fun _ => 0))), (q2, .inl (c2, 14, .inl (fun _ => 0)))] := hD
  have hK : va_K D vwCl [(c1, .int), (c2, .int)] s := hK
  refine va_putF (D := D) (ci := 1) (v := .ref q2) (ty := .array .int) (C := RX1) (T := TX1) (N := 9) hx hb hts in_X1 tyX1 tyX1_ok nmX1 hown hK hP hD hS 0 rfl rfl 1 (by decide) (hts _ q274) (fun _ h9 => h9) rfl hin rfl (by decide +kernel) rfl rfl (Nat.le_of_ble_eq_true rfl) dX1_init_17 (fun H locs hP hD hS => ?_)
  have hP : va_P D vwCl [(h0, .inr (1, [.ref q1, .ref q2, .null, .null, .int 0, .null, .null, .null, .int 0])), (q1, .inl (c1, 14, .inl (fun _ => 0))), (q2, .inl (c2, 14, .inl (fun _ => 0)))] H := hP
  have hD : va_D A [(h0, .inr (1, [.ref q1, .ref q2, .null, .null, .int 0, .null, .null, .null, .int 0])), (q1, .inl (c1, 14, .inl (fun _ => 0))), (q2, .inl (c2, 14, .inl (fun _ => 0)))] := hD
  refine lv_aload_n hx hb dX1_init_20 rfl (lv_at hl 0 rfl) ?_
  refine lv_bipush (v := 14) hx hb dX1_init_21 (by decide) ?_
  refine va_newa (atype := .int) (ty := .int) (N' := 14) (a0 := (14, .inl (fun _ => 0))) hx hb (hts _ q108) rfl hK hP hD hS hA (fun cA => rfl) (by decide) (by decide) (by decide) (Nat.le_of_ble_eq_true rfl) (Nat.le_of_ble_eq_true rfl) dX1_init_23 (fun q3 c3 H hK hP hD hS => ?_)
  refine W.widen (k := 3) (n := 42) (Nat.le_of_ble_eq_true rfl) (Nat.le_of_ble_eq_true rfl) ?_
  have hP : va_P D vwCl [(h0, .inr (1, [.ref q1, .ref q2, .null, .null, .int 0, .null, .null, .null, .int 0])), (q1, .inl (c1, 14, .inl (fun _ => 0))), (q2, .inl (c2, 14, .inl (fun _ => 0))), (q3, .inl (c3, 14, .inl (fun _ => 0)))] H := hP
  have hD : va_D A [(h0, .inr (1, [.ref q1, .ref q2, .null, .null, .int 0, .null, .null, .null, .int 0])), (q1, .inl (c1, 14, .inl (fun _ => 0))), (q2, .inl (c2, 14, .inl (fun _ => 0))), (q3, .inl (c3, 14, .inl (fun _ => 0)))] := hD
  have hK : va_K D vwCl [(c1, .int), (c2, .int), (c3, .int)] s := hK
  refine va_putF (D := D) (ci := 1) (v := .ref q3) (ty := .array .int) (C := RX1) (T := TX1) (N := 9) hx hb hts in_X1 tyX1 tyX1_ok nmX1 hown hK hP hD hS 0 rfl rfl 2 (by decide) (hts _ q275) (fun _ h9 => h9) rfl hin rfl (by decide +kernel) rfl rfl (Nat.le_of_ble_eq_true rfl) dX1_init_25 (fun H locs hP hD hS => ?_)
  have hP : va_P D vwCl [(h0, .inr (1, [.ref q1, .ref q2, .ref q3, .null, .int 0, .null, .null, .null, .int 0])), (q1, .inl (c1, 14, .inl (fun _ => 0))), (q2, .inl (c2, 14, .inl (fun _ => 0))), (q3, .inl (c3, 14, .inl (fun _ => 0)))] H := hP
  have hD : va_D A [(h0, .inr (1, [.ref q1, .ref q2, .ref q3, .null, .int 0, .null, .null, .null, .int 0])), (q1, .inl (c1, 14, .inl (fun _ => 0))), (q2, .inl (c2, 14, .inl (fun _ => 0))), (q3, .inl (c3, 14, .inl (fun _ => 0)))] := hD
  refine lv_aload_n hx hb dX1_init_28 rfl (lv_at hl 0 rfl) ?_
  refine lv_bipush (v := 14) hx hb dX1_init_29 (by decide) ?_
  refine va_newa (atype := .int) (ty := .int) (N' := 14) (a0 := (14, .inl (fun _ => 0))) hx hb (hts _ q108) rfl hK hP hD hS hA (fun cA => rfl) (by decide) (by decide) (by decide) (Nat.le_of_ble_eq_true rfl) (Nat.le_of_ble_eq_true rfl) dX1_init_31 (fun q4 c4 H hK hP hD hS => ?_)
  refine W.widen (k := 4) (n := 56) (Nat.le_of_ble_eq_true rfl) (Nat.le_of_ble_eq_true rfl) ?_
  have hP : va_P D vwCl [(h0, .inr (1, [.ref q1, .ref q2, .ref q3, .null, .int 0, .null, .null, .null, .int 0])), (q1, .inl (c1, 14, .inl (fun _ => 0))), (q2, .inl (c2, 14, .inl (fun _ => 0))), (q3, .inl (c3, 14, .inl (fun _ => 0))), (q4, .inl (c4, 14, .inl (fun _ => 0)))] H := hP
  have hD : va_D A [(h0, .inr (1, [.ref q1, .ref q2, .ref q3, .null, .int 0, .null, .null, .null, .int 0])), (q1, .inl (c1, 14, .inl (fun _ => 0))), (q2, .inl (c2, 14, .inl (fun _ => 0))), (q3, .inl (c3, 14, .inl (fun _ => 0))), (q4, .inl (c4, 14, .inl (fun _ => 0)))] := hD
  have hK : va_K D vwCl [(c1, .int), (c2, .int), (c3, .int), (c4, .int)] s := hK
  refine va_putF (D := D) (ci := 1) (v := .ref q4) (ty := .array .int) (C := RX1) (T := TX1) (N := 9) hx hb hts in_X1 tyX1 tyX1_ok nmX1 hown hK hP hD hS 0 rfl rfl 3 (by decide) (hts _ q276) (fun _ h9 => h9) rfl hin rfl (by decide +kernel) rfl rfl (Nat.le_of_ble_eq_true rfl) dX1_init_33 (fun H locs hP hD hS => ?_)
  have hP : va_P D vwCl [(h0, .inr (1, [.ref q1, .ref q2, .ref q3, .ref q4, .int 0, .null, .null, .null, .int 0])), (q1, .inl (c1, 14, .inl (fun _ => 0))), (q2, .inl (c2, 14, .inl (fun _ => 0))), (q3, .inl (c3, 14, .inl (fun _ => 0))), (q4, .inl (c4, 14, .inl (fun _ => 0)))] H := hP
  have hD : va_D A [(h0, .inr (1, [.ref q1, .ref q2, .ref q3, .ref q4, .int 0, .null, .null, .null, .int 0])), (q1, .inl (c1, 14, .inl (fun _ => 0))), (q2, .inl (c2, 14, .inl (fun _ => 0))), (q3, .inl (c3, 14, .inl (fun _ => 0))), (q4, .inl (c4, 14, .inl (fun _ => 0)))] := hD
  refine lv_aload_n hx hb dX1_init_36 rfl (lv_at hl 0 rfl) ?_
  refine lv_bipush (v := 8) hx hb dX1_init_37 (by decide) ?_
  refine va_newa (atype := .int) (ty := .int) (N' := 8) (a0 := (8, .inl (fun _ => 0))) hx hb (hts _ q108) rfl hK hP hD hS hA (fun cA => rfl) (by decide) (by decide) (by decide) (Nat.le_of_ble_eq_true rfl) (Nat.le_of_ble_eq_true rfl) dX1_init_39 (fun q5 c5 H hK hP hD hS => ?_)
  refine W.widen (k := 5) (n := 64) (Nat.le_of_ble_eq_true rfl) (Nat.le_of_ble_eq_true rfl) ?_
  have hP : va_P D vwCl [(h0, .inr (1, [.ref q1, .ref q2, .ref q3, .ref q4, .int 0, .null, .null, .null, .int 0])), (q1, .inl (c1, 14, .inl (fun _ => 0))), (q2, .inl (c2, 14, .inl (fun _ => 0))), (q3, .inl (c3, 14, .inl (fun _ => 0))), (q4, .inl (c4, 14, .inl (fun _ => 0))), (q5, .inl (c5, 8, .inl (fun _ => 0)))] H := hP
  have hD : va_D A [(h0, .inr (1, [.ref q1, .ref q2, .ref q3, .ref q4, .int 0, .null, .null, .null, .int 0])), (q1, .inl (c1, 14, .inl (fun _ => 0))), (q2, .inl (c2, 14, .inl (fun _ => 0))), (q3, .inl (c3, 14, .inl (fun _ => 0))), (q4, .inl (c4, 14, .inl (fun _ => 0))), (q5, .inl (c5, 8, .inl (fun _ => 0)))] := hD
  have hK : va_K D vwCl [(c1, .int), (c2, .int), (c3, .int), (c4, .int), (c5, .int)] s := hK
  refine va_putF (D := D) (ci := 1) (v := .ref q5) (ty := .array .int) (C := RX1) (T := TX1) (N := 9) hx hb hts in_X1 tyX1 tyX1_ok nmX1 hown hK hP hD hS 0 rfl rfl 5 (by decide) (hts _ q278) (fun _ h9 => h9) rfl hin rfl (by decide +kernel) rfl rfl (Nat.le_of_ble_eq_true rfl) dX1_init_41 (fun H locs hP hD hS => ?_)
  have hP : va_P D vwCl [(h0, .inr (1, [.ref q1, .ref q2, .ref q3, .ref q4, .int 0, .ref q5, .null, .null, .int 0])), (q1, .inl (c1, 14, .inl (fun _ => 0))), (q2, .inl (c2, 14, .inl (fun _ => 0))), (q3, .inl (c3, 14, .inl (fun _ => 0))), (q4, .inl (c4, 14, .inl (fun _ => 0))), (q5, .inl (c5, 8, .inl (fun _ => 0)))] H := hP
  have hD : va_D A [(h0, .inr (1, [.ref q1, .ref q2, .ref q3, .ref q4, .int 0, .ref q5, .null, .null, .int 0])), (q1, .inl (c1, 14, .inl (fun _ => 0))), (q2, .inl (c2, 14, .inl (fun _ => 0))), (q3, .inl (c3, 14, .inl (fun _ => 0))), (q4, .inl (c4, 14, .inl (fun _ => 0))), (q5, .inl (c5, 8, .inl (fun _ => 0)))] := hD
  refine lv_aload_n hx hb dX1_init_44 rfl (lv_at hl 0 rfl) ?_
  refine lv_bipush (v := 16) hx hb dX1_init_45 (by decide) ?_
  refine va_newa (atype := .int) (ty := .int) (N' := 16) (a0 := (16, .inl (fun _ => 0))) hx hb (hts _ q108) rfl hK hP hD hS hA (fun cA => rfl) (by decide) (by decide) (by decide) (Nat.le_of_ble_eq_true rfl) (Nat.le_of_ble_eq_true rfl) dX1_init_47 (fun q6 c6 H hK hP hD hS => ?_)
  refine W.widen (k := 6) (n := 80) (Nat.le_of_ble_eq_true rfl) (Nat.le_of_ble_eq_true rfl) ?_
  have hP : va_P D vwCl [(h0, .inr (1, [.ref q1, .ref q2, .ref q3, .ref q4, .int 0, .ref q5, .null, .null, .int 0])), (q1, .inl (c1, 14, .inl (fun _ => 0))), (q2, .inl (c2, 14, .inl (fun _ => 0))), (q3, .inl (c3, 14, .inl (fun _ => 0))), (q4, .inl (c4, 14, .inl (fun _ => 0))), (q5, .inl (c5, 8, .inl (fun _ => 0))), (q6, .inl (c6, 16, .inl (fun _ => 0)))] H := hP
  have hD : va_D A [(h0, .inr (1, [.ref q1, .ref q2, .ref q3, .ref q4, .int 0, .ref q5, .null, .null, .int 0])), (q1, .inl (c1, 14, .inl (fun _ => 0))), (q2, .inl (c2, 14, .inl (fun _ => 0))), (q3, .inl (c3, 14, .inl (fun _ => 0))), (q4, .inl (c4, 14, .inl (fun _ => 0))), (q5, .inl (c5, 8, .inl (fun _ => 0))), (q6, .inl (c6, 16, .inl (fun _ => 0)))] := hD
  have hK : va_K D vwCl [(c1, .int), (c2, .int), (c3, .int), (c4, .int), (c5, .int), (c6, .int)] s := hK
  refine va_putF (D := D) (ci := 1) (v := .ref q6) (ty := .array .int) (C := RX1) (T := TX1) (N := 9) hx hb hts in_X1 tyX1 tyX1_ok nmX1 hown hK hP hD hS 0 rfl rfl 6 (by decide) (hts _ q279) (fun _ h9 => h9) rfl hin rfl (by decide +kernel) rfl rfl (Nat.le_of_ble_eq_true rfl) dX1_init_49 (fun H locs hP hD hS => ?_)
  have hP : va_P D vwCl [(h0, .inr (1, [.ref q1, .ref q2, .ref q3, .ref q4, .int 0, .ref q5, .ref q6, .null, .int 0])), (q1, .inl (c1, 14, .inl (fun _ => 0))), (q2, .inl (c2, 14, .inl (fun _ => 0))), (q3, .inl (c3, 14, .inl (fun _ => 0))), (q4, .inl (c4, 14, .inl (fun _ => 0))), (q5, .inl (c5, 8, .inl (fun _ => 0))), (q6, .inl (c6, 16, .inl (fun _ => 0)))] H := hP
  have hD : va_D A [(h0, .inr (1, [.ref q1, .ref q2, .ref q3, .ref q4, .int 0, .ref q5, .ref q6, .null, .int 0])), (q1, .inl (c1, 14, .inl (fun _ => 0))), (q2, .inl (c2, 14, .inl (fun _ => 0))), (q3, .inl (c3, 14, .inl (fun _ => 0))), (q4, .inl (c4, 14, .inl (fun _ => 0))), (q5, .inl (c5, 8, .inl (fun _ => 0))), (q6, .inl (c6, 16, .inl (fun _ => 0)))] := hD
  refine lv_aload_n hx hb dX1_init_52 rfl (lv_at hl 0 rfl) ?_
  refine lv_bipush (v := 16) hx hb dX1_init_53 (by decide) ?_
  refine va_newa (atype := .boolean) (ty := .boolean) (N' := 16) (a0 := (16, .inl (fun _ => 0))) hx hb (hts _ q109) rfl hK hP hD hS hA (fun cA => rfl) (by decide) (by decide) (by decide) (Nat.le_of_ble_eq_true rfl) (Nat.le_of_ble_eq_true rfl) dX1_init_55 (fun q7 c7 H hK hP hD hS => ?_)
  refine W.widen (k := 7) (n := 96) (Nat.le_of_ble_eq_true rfl) (Nat.le_of_ble_eq_true rfl) ?_
  have hP : va_P D vwCl [(h0, .inr (1, [.ref q1, .ref q2, .ref q3, .ref q4, .int 0, .ref q5, .ref q6, .null, .int 0])), (q1, .inl (c1, 14, .inl (fun _ => 0))), (q2, .inl (c2, 14, .inl (fun _ => 0))), (q3, .inl (c3, 14, .inl (fun _ => 0))), (q4, .inl (c4, 14, .inl (fun _ => 0))), (q5, .inl (c5, 8, .inl (fun _ => 0))), (q6, .inl (c6, 16, .inl (fun _ => 0))), (q7, .inl (c7, 16, .inl (fun _ => 0)))] H := hP
  have hD : va_D A [(h0, .inr (1, [.ref q1, .ref q2, .ref q3, .ref q4, .int 0, .ref q5, .ref q6, .null, .int 0])), (q1, .inl (c1, 14, .inl (fun _ => 0))), (q2, .inl (c2, 14, .inl (fun _ => 0))), (q3, .inl (c3, 14, .inl (fun _ => 0))), (q4, .inl (c4, 14, .inl (fun _ => 0))), (q5, .inl (c5, 8, .inl (fun _ => 0))), (q6, .inl (c6, 16, .inl (fun _ => 0))), (q7, .inl (c7, 16, .inl (fun _ => 0)))] := hD
  have hK : va_K D vwCl [(c1, .int), (c2, .int), (c3, .int), (c4, .int), (c5, .int), (c6, .int), (c7, .boolean)] s := hK
  refine va_putF (D := D) (ci := 1) (v := .ref q7) (ty := .array .boolean) (C := RX1) (T := TX1) (N := 9) hx hb hts in_X1 tyX1 tyX1_ok nmX1 hown hK hP hD hS 0 rfl rfl 7 (by decide) (hts _ q280) (fun _ h9 => h9) rfl hin rfl (by decide +kernel) rfl rfl (Nat.le_of_ble_eq_true rfl) dX1_init_57 (fun H locs hP hD hS => ?_)
  have hP : va_P D vwCl [(h0, .inr (1, [.ref q1, .ref q2, .ref q3, .ref q4, .int 0, .ref q5, .ref q6, .ref q7, .int 0])), (q1, .inl (c1, 14, .inl (fun _ => 0))), (q2, .inl (c2, 14, .inl (fun _ => 0))), (q3, .inl (c3, 14, .inl (fun _ => 0))), (q4, .inl (c4, 14, .inl (fun _ => 0))), (q5, .inl (c5, 8, .inl (fun _ => 0))), (q6, .inl (c6, 16, .inl (fun _ => 0))), (q7, .inl (c7, 16, .inl (fun _ => 0)))] H := hP
  have hD : va_D A [(h0, .inr (1, [.ref q1, .ref q2, .ref q3, .ref q4, .int 0, .ref q5, .ref q6, .ref q7, .int 0])), (q1, .inl (c1, 14, .inl (fun _ => 0))), (q2, .inl (c2, 14, .inl (fun _ => 0))), (q3, .inl (c3, 14, .inl (fun _ => 0))), (q4, .inl (c4, 14, .inl (fun _ => 0))), (q5, .inl (c5, 8, .inl (fun _ => 0))), (q6, .inl (c6, 16, .inl (fun _ => 0))), (q7, .inl (c7, 16, .inl (fun _ => 0)))] := hD
  refine lv_aload_n hx hb dX1_init_60 rfl (lv_at hl 0 rfl) ?_
  refine lv_iconst (v := (-1)) hx hb dX1_init_61 (by decide) ?_
  refine va_put (D := D) (ci := 1) (v := .int (-1)) (ty := .int) (C := RX1) (T := TX1) (N := 9) hx hb hts in_X1 tyX1 tyX1_ok nmX1 hown hK hP hD hS 0 rfl rfl 8 (by decide) (hts _ q281) (fun _ h9 => h9) rfl (by decide +kernel) rfl rfl (Nat.le_of_ble_eq_true rfl) dX1_init_62 (fun H locs hP hD hS => ?_)
  have hP : va_P D vwCl [(h0, .inr (1, [.ref q1, .ref q2, .ref q3, .ref q4, .int 0, .ref q5, .ref q6, .ref q7, .int (-1)])), (q1, .inl (c1, 14, .inl (fun _ => 0))), (q2, .inl (c2, 14, .inl (fun _ => 0))), (q3, .inl (c3, 14, .inl (fun _ => 0))), (q4, .inl (c4, 14, .inl (fun _ => 0))), (q5, .inl (c5, 8, .inl (fun _ => 0))), (q6, .inl (c6, 16, .inl (fun _ => 0))), (q7, .inl (c7, 16, .inl (fun _ => 0)))] H := hP
  have hD : va_D A [(h0, .inr (1, [.ref q1, .ref q2, .ref q3, .ref q4, .int 0, .ref q5, .ref q6, .ref q7, .int (-1)])), (q1, .inl (c1, 14, .inl (fun _ => 0))), (q2, .inl (c2, 14, .inl (fun _ => 0))), (q3, .inl (c3, 14, .inl (fun _ => 0))), (q4, .inl (c4, 14, .inl (fun _ => 0))), (q5, .inl (c5, 8, .inl (fun _ => 0))), (q6, .inl (c6, 16, .inl (fun _ => 0))), (q7, .inl (c7, 16, .inl (fun _ => 0)))] := hD
  exact W.vret hx hb hr (fun t ht hW => ⟨⟨(), rfl, trivial, (fun k => ([q1, q2, q3, q4, 0, q5, q6, q7, 0] : List Nat).getD k 0), (fun k => ([c1, c2, c3, c4, c1, c5, c6, c7, c1] : List ClassId).getD k c1), by rw [ht]; exact hP, va_K.moved hW.alike hK, hD⟩, hS.F ht⟩) hS.2.2 dX1_init_65
end
section
/-! the law's invariant: class and reference hold the same program, registers, words, bars and last end -/
def zinv (F M : Nat → Nat → Int32) (n : Nat) : Prop := F 0 0 = nI n ∧ M 4 0 = nI n ∧ n ≤ 14 ∧ (∀ i, i < n → zwf F i ∧ zrel F M i) ∧ F 6 = M 5 ∧ F 7 = M 6 ∧ F 8 = M 7 ∧ F 9 0 = M 8 0 ∧ (¬ F 10 0 = 0 → zSch F n)
def zI (F M : Nat → Nat → Int32) : Prop := ∃ n, zinv F M n
theorem zI_0 : zI zF0 zM0 := ⟨0, rfl, rfl, by omega, fun i hi => absurd hi (by omega), rfl, rfl, rfl, rfl, fun h => absurd rfl h⟩
section AP
variable {F M : Nat → Nat → Int32} {n i : Nat} {k d a b v k2 a2 b2 c2 : Int32}
theorem zapp_o (h : i ≠ n) : zapp F n k d a b v 1 i = F 1 i ∧ zapp F n k d a b v 2 i = F 2 i ∧ zapp F n k d a b v 3 i = F 3 i ∧ zapp F n k d a b v 4 i = F 4 i ∧ zapp F n k d a b v 5 i = F 5 i := ⟨pk_un h, pk_un h, pk_un h, pk_un h, pk_un h⟩
theorem zapp_n : zapp F n k d a b v 1 n = k ∧ zapp F n k d a b v 2 n = d ∧ zapp F n k d a b v 3 n = a ∧ zapp F n k d a b v 4 n = b ∧ zapp F n k d a b v 5 n = v := ⟨pk_us, pk_us, pk_us, pk_us, pk_us⟩
theorem zappM_o (h : i ≠ n) : zappM M n k2 a2 b2 c2 0 i = M 0 i ∧ zappM M n k2 a2 b2 c2 1 i = M 1 i ∧ zappM M n k2 a2 b2 c2 2 i = M 2 i ∧ zappM M n k2 a2 b2 c2 3 i = M 3 i := ⟨pk_un h, pk_un h, pk_un h, pk_un h⟩
theorem zappM_n : zappM M n k2 a2 b2 c2 0 n = k2 ∧ zappM M n k2 a2 b2 c2 1 n = a2 ∧ zappM M n k2 a2 b2 c2 2 n = b2 ∧ zappM M n k2 a2 b2 c2 3 n = c2 := ⟨pk_us, pk_us, pk_us, pk_us⟩
/-- the new instruction is well made, and the same on both sides -/
def znew (k d a b v k2 a2 b2 c2 : Int32) : Prop :=
  (k = 0 ∧ k2 = 0 ∧ vp_in d 8 ∧ a = -1 ∧ b = -1 ∧ a2 = d ∧ b2 = v) ∨ (k = 1 ∧ k2 = 1 ∧ vp_in d 8 ∧ vp_in a 8 ∧ vp_in b 8 ∧ a2 = d ∧ b2 = a ∧ c2 = b) ∨ (k = 2 ∧ k2 = 2 ∧ vp_in d 8 ∧ vp_in a 8 ∧ vp_in b 8 ∧ a2 = d ∧ b2 = a ∧ c2 = b) ∨
  (k = 3 ∧ k2 = 3 ∧ vp_in d 8 ∧ vp_in a 8 ∧ b = -1 ∧ a2 = d ∧ b2 = a ∧ c2 = v) ∨ (k = 4 ∧ k2 = 4 ∧ d = -1 ∧ vp_in a 8 ∧ vp_in b 8 ∧ a2 = a ∧ b2 = v ∧ c2 = b) ∨ (k = 5 ∧ k2 = 5 ∧ d = -1 ∧ vp_in a 8 ∧ b = -1 ∧ a2 = a)
theorem znew_ok (h : znew k d a b v k2 a2 b2 c2) : zwf (zapp F n k d a b v) n ∧ zrel (zapp F n k d a b v) (zappM M n k2 a2 b2 c2) n := by
  obtain ⟨x1, x2, x3, x4, x5⟩ := zapp_n (F := F) (n := n) (k := k) (d := d) (a := a) (b := b) (v := v)
  obtain ⟨y0, y1, y2, y3⟩ := zappM_n (M := M) (n := n) (k2 := k2) (a2 := a2) (b2 := b2) (c2 := c2)
  unfold zwf zrel
  rw [x1, x2, x3, x4, x5, y0, y1, y2, y3]
  rcases h with ⟨h1, h2, h3, h4, h5, h6, h7⟩ | ⟨h1, h2, h3, h4, h5, h6, h7, h8⟩ | ⟨h1, h2, h3, h4, h5, h6, h7, h8⟩ | ⟨h1, h2, h3, h4, h5, h6, h7, h8⟩ | ⟨h1, h2, h3, h4, h5, h6, h7, h8⟩ | ⟨h1, h2, h3, h4, h5, h6⟩
  · exact ⟨Or.inl ⟨h1, h3, h4, h5⟩, Or.inl ⟨h1, h2, h6, h7⟩⟩
  · exact ⟨Or.inr (Or.inl ⟨h1, h3, h4, h5⟩), Or.inr (Or.inl ⟨h1, h2, h6, h7, h8⟩)⟩
  · exact ⟨Or.inr (Or.inr (Or.inl ⟨h1, h3, h4, h5⟩)), Or.inr (Or.inr (Or.inl ⟨h1, h2, h6, h7, h8⟩))⟩
  · exact ⟨Or.inr (Or.inr (Or.inr (Or.inl ⟨h1, h3, h4, h5⟩))), Or.inr (Or.inr (Or.inr (Or.inl ⟨h1, h2, h6, h7, h8⟩)))⟩
  · exact ⟨Or.inr (Or.inr (Or.inr (Or.inr (Or.inl ⟨h1, h3, h4, h5⟩)))), Or.inr (Or.inr (Or.inr (Or.inr (Or.inl ⟨h1, h2, h6, h7, h8⟩))))⟩
  · exact ⟨Or.inr (Or.inr (Or.inr (Or.inr (Or.inr ⟨h1, h3, h4, h5⟩)))), Or.inr (Or.inr (Or.inr (Or.inr (Or.inr ⟨h1, h2, h6⟩))))⟩
theorem zinv_app (h : zinv F M n) (hn : n < 14) (hw : znew k d a b v k2 a2 b2 c2) : zinv (zapp F n k d a b v) (zappM M n k2 a2 b2 c2) (n + 1) := by
  obtain ⟨h1, h2, h3, h4, h5, h6, h7, h8, h9⟩ := h
  refine ⟨rfl, rfl, by omega, lt_s (fun i hi => ?_) (znew_ok hw), h5, h6, h7, h8, fun q => absurd rfl q⟩
  obtain ⟨x1, x2, x3, x4, x5⟩ := zapp_o (F := F) (n := n) (i := i) (k := k) (d := d) (a := a) (b := b) (v := v) (by omega)
  obtain ⟨y0, y1, y2, y3⟩ := zappM_o (M := M) (n := n) (i := i) (k2 := k2) (a2 := a2) (b2 := b2) (c2 := c2) (by omega)
  obtain ⟨q1, q2⟩ := h4 i hi
  unfold zwf zrel at *
  rw [x1, x2, x3, x4, x5, y0, y1, y2, y3]
  exact ⟨q1, q2⟩
theorem zI_app {B : Prop} {F' M' : Nat → Nat → Int32} {r r2 : Int32} (h : zinv F M n) (hw : ¬ B → znew k d a b v k2 a2 b2 c2) (hx : zbad B F (zApost F n k d a b v) r F') (hm : zbad B M (zMpost M n k2 a2 b2 c2) r2 M') : r = r2 ∧ zI F' M' := by
  rcases hx with ⟨hb, e1, e2⟩ | ⟨hb, hx⟩
  · rcases hm with ⟨-, e3, e4⟩ | ⟨hb2, -⟩
    · rw [e1, e3, e2, e4]; exact ⟨rfl, n, h⟩
    · exact absurd hb hb2
  · rcases hm with ⟨hb2, -⟩ | ⟨-, hm⟩
    · exact absurd hb2 hb
    · rcases hx with ⟨q, e1, e2⟩ | ⟨q, e1, e2⟩
      · rcases hm with ⟨-, e3, e4⟩ | ⟨q2, -⟩
        · rw [e1, e3, e2, e4]; exact ⟨rfl, n, h⟩
        · omega
      · rcases hm with ⟨q2, -⟩ | ⟨-, e3, e4⟩
        · omega
        · rw [e1, e3, e2, e4]
          exact ⟨rfl, n + 1, zinv_app h q (hw hb)⟩
end AP
section LW
variable {F M F' M' : Nat → Nat → Int32} {n : Nat} {r r2 : Int32}
theorem zI_clear (h : zinv F M n) (h1 : F' = zput (zput F 0 (fun _ => 0)) 10 (fun _ => 0)) (h2 : M' = zput M 4 (fun _ => 0)) : zI F' M' := by
  subst h1; subst h2
  obtain ⟨-, -, -, -, h5, h6, h7, h8, -⟩ := h
  exact ⟨0, rfl, rfl, by omega, fun i hi => absurd hi (by omega), h5, h6, h7, h8, fun q => absurd rfl q⟩
theorem zinv_put {f g : Nat → Int32} (h : zinv F M n) (e : f = g) : zinv (zput F 6 f) (zput M 5 g) n ∧ zinv (zput F 7 f) (zput M 6 g) n ∧ zinv (zput F 8 f) (zput M 7 g) n := by
  obtain ⟨h1, h2, h3, h4, h5, h6, h7, h8, h9⟩ := h
  exact ⟨⟨h1, h2, h3, h4, e, h6, h7, h8, h9⟩, ⟨h1, h2, h3, h4, h5, e, h7, h8, h9⟩, ⟨h1, h2, h3, h4, h5, h6, e, h8, h9⟩⟩
theorem zI_setR {B : Prop} {x v : Int32} (h : zinv F M n) (hx : zbad B F (fun r F' => r = 0 ∧ F' = zput F 6 (upd (F 6) x.toNatClampNeg v)) r F') (hm : zbad B M (fun r F' => r = 0 ∧ F' = zput M 5 (upd (M 5) x.toNatClampNeg v)) r2 M') : r = r2 ∧ zI F' M' := by
  rcases hx with ⟨hb, e1, e2⟩ | ⟨hb, e1, e2⟩ <;> rcases hm with ⟨hb2, e3, e4⟩ | ⟨hb2, e3, e4⟩
  · rw [e1, e3, e2, e4]; exact ⟨rfl, n, h⟩
  · exact absurd hb hb2
  · exact absurd hb2 hb
  · rw [e1, e3, e2, e4]; exact ⟨rfl, n, (zinv_put h (by rw [h.2.2.2.2.1])).1⟩
theorem zI_setW {B : Prop} {x v : Int32} (h : zinv F M n) (hx : zbad B F (fun r F' => r = 0 ∧ F' = zput F 7 (upd (F 7) x.toNatClampNeg v)) r F') (hm : zbad B M (fun r F' => r = 0 ∧ F' = zput M 6 (upd (M 6) x.toNatClampNeg v)) r2 M') : r = r2 ∧ zI F' M' := by
  rcases hx with ⟨hb, e1, e2⟩ | ⟨hb, e1, e2⟩ <;> rcases hm with ⟨hb2, e3, e4⟩ | ⟨hb2, e3, e4⟩
  · rw [e1, e3, e2, e4]; exact ⟨rfl, n, h⟩
  · exact absurd hb hb2
  · exact absurd hb2 hb
  · rw [e1, e3, e2, e4]; exact ⟨rfl, n, (zinv_put h (by rw [h.2.2.2.2.2.1])).2.1⟩
theorem zI_bar {B : Prop} {x v : Int32} (h : zinv F M n) (hx : zbad B F (fun r F' => r = (if F 8 x.toNatClampNeg = 0 then 0 else 1) ∧ F' = zput F 8 (upd (F 8) x.toNatClampNeg (if v = 0 then 0 else 1))) r F') (hm : zbad B M (fun r F' => r = (if M 7 x.toNatClampNeg = 0 then 0 else 1) ∧ F' = zput M 7 (upd (M 7) x.toNatClampNeg (if v = 0 then 0 else 1))) r2 M') : r = r2 ∧ zI F' M' := by
  rcases hx with ⟨hb, e1, e2⟩ | ⟨hb, e1, e2⟩ <;> rcases hm with ⟨hb2, e3, e4⟩ | ⟨hb2, e3, e4⟩
  · rw [e1, e3, e2, e4]; exact ⟨rfl, n, h⟩
  · exact absurd hb hb2
  · exact absurd hb2 hb
  · rw [e2, e4]; exact ⟨by rw [e1, e3, h.2.2.2.2.2.2.1], n, (zinv_put h (by rw [h.2.2.2.2.2.2.1])).2.2⟩
theorem zI_get {B : Prop} {f g : Nat → Int32} {x : Int32} (h : zinv F M n) (e : f = g) (hx : F' = F ∧ ((B ∧ r = 0) ∨ (¬ B ∧ r = f x.toNatClampNeg))) (hm : M' = M ∧ ((B ∧ r2 = 0) ∨ (¬ B ∧ r2 = g x.toNatClampNeg))) : r = r2 ∧ zI F' M' := by
  obtain ⟨rfl, hx⟩ := hx
  obtain ⟨rfl, hm⟩ := hm
  refine ⟨?_, n, h⟩
  rcases hx with ⟨hb, e1⟩ | ⟨hb, e1⟩ <;> rcases hm with ⟨hb2, e3⟩ | ⟨hb2, e3⟩
  · rw [e1, e3]
  · exact absurd hb hb2
  · exact absurd hb2 hb
  · rw [e1, e3, e]
theorem zI_same {u v : Int32} (h : zinv F M n) (e : u = v) (hx : r = u ∧ F' = F) (hm : r2 = v ∧ M' = M) : r = r2 ∧ zI F' M' := by
  obtain ⟨rfl, rfl⟩ := hx
  obtain ⟨rfl, rfl⟩ := hm
  exact ⟨e, n, h⟩
theorem zinv_keep (h : zinv F M n) (s1 : zsame [6, 7, 9, 10, 11, 12, 13, 14, 15, 16, 17, 18, 19, 20, 21, 22] F F') (s2 : zsame [5, 6, 8] M M') (h6 : F' 6 = M' 5) (h7 : F' 7 = M' 6) (h9 : F' 9 0 = M' 8 0) (hs : ¬ F' 10 0 = 0 → zSch F' n) : zinv F' M' n := by
  obtain ⟨a1, a2, a3, a4, a5, a6, a7, a8, a9⟩ := h
  refine ⟨(congrFun (s1 0 (by decide)) 0).trans a1, (congrFun (s2 4 (by decide)) 0).trans a2, a3, fun i hi => ⟨zwf_same (s1 1 (by decide)) (s1 2 (by decide)) (s1 3 (by decide)) (s1 4 (by decide)) (a4 i hi).1, ?_⟩, h6, h7, ((s1 8 (by decide)).trans a7).trans (s2 7 (by decide)).symm, h9, hs⟩
  unfold zrel
  rw [s1 1 (by decide), s1 2 (by decide), s1 3 (by decide), s1 4 (by decide), s1 5 (by decide), s2 0 (by decide), s2 1 (by decide), s2 2 (by decide), s2 3 (by decide)]
  exact (a4 i hi).2
theorem zI_run (h : zinv F M n) (hx : zRun F n r F') (hm : zMRun F M n r2 M') : r = r2 ∧ zI F' M' := by
  obtain ⟨s1, s2, s3, e, s4, s5⟩ := hx
  obtain ⟨t1, t3, e2, t4, t5⟩ := hm
  rw [← h.2.2.2.2.1, ← h.2.2.2.2.2.1, s4] at t4
  have p := Prod.mk.inj t4
  have p2 := Prod.mk.inj p.2
  have er : r = r2 := by rw [s5, t5, p.1]
  exact ⟨er, n, zinv_keep h s1 t1 p2.1 p2.2 (by rw [s3, t3, er]) (fun _ => s2)⟩
theorem zI_rep {T : Nat} (h : zinv F M n) (hx : zRep F n T r F') (hm : zMRep F M n T r2 M') : r = r2 ∧ zI F' M' := by
  obtain ⟨s1, s2, q, s4, s5⟩ := hx
  obtain ⟨t1, q2, t4, t5⟩ := hm
  rw [← h.2.2.2.2.1, ← h.2.2.2.2.2.1, ← h.2.2.2.2.2.2.2.1, s4] at t4
  have p := Prod.mk.inj t4
  have p2 := Prod.mk.inj p.2
  have p3 := Prod.mk.inj p2.2
  exact ⟨by rw [s5, t5, p.1], n, zinv_keep h s1 t1 p3.1 p3.2 p2.1 s2⟩
end LW
end
section
/-! rules for the law's own walk: its world is two objects' worlds, and the script -/
theorem z2_Pl {D : va_G} {cl : List vw_C} {a b : va_W} {H : Heap} (h : va_P D cl (a ++ b) H) : va_P D cl a H := fun k q hk => h k q (by rw [List.getElem?_append_left (List.getElem?_eq_some_iff.mp hk).1]; exact hk)
theorem z2_Pr {D : va_G} {cl : List vw_C} {a b : va_W} {H : Heap} (h : va_P D cl (a ++ b) H) : va_P D cl b H := fun k q hk => h (a.length + k) q (by rw [List.getElem?_append_right (by omega), Nat.add_sub_cancel_left]; exact hk)
theorem z2_Dl {A : Nat → Prop} {a b : va_W} (h : va_D A (a ++ b)) : va_D A a := by
  have up : ∀ (k : Nat) (q : Nat × va_E), a[k]? = some q → (a ++ b)[k]? = some q := fun k q hk => by rw [List.getElem?_append_left (List.getElem?_eq_some_iff.mp hk).1]; exact hk
  exact ⟨fun i j p q hi hj e => h.1 i j p q (up i p hi) (up j q hj) e, fun k q hk => h.2 k q (up k q hk)⟩
theorem z2_Dr {A : Nat → Prop} {a b : va_W} (h : va_D A (a ++ b)) : va_D A b := by
  have up : ∀ (k : Nat) (q : Nat × va_E), b[k]? = some q → (a ++ b)[a.length + k]? = some q := fun k q hk => by rw [List.getElem?_append_right (by omega), Nat.add_sub_cancel_left]; exact hk
  refine ⟨fun i j p q hi hj e => ?_, fun k q hk => h.2 _ q (up k q hk)⟩
  have := h.1 _ _ p q (up i p hi) (up j q hj) e
  omega
theorem z2_Dx {A : Nat → Prop} {a b : va_W} (h : va_D A (a ++ b)) (i j : Nat) (p q : Nat × va_E) (hi : a[i]? = some p) (hj : b[j]? = some q) : p.1 ≠ q.1 := by
  intro e
  have hil := (List.getElem?_eq_some_iff.mp hi).1
  have := h.1 i (a.length + j) p q (by rw [List.getElem?_append_left hil]; exact hi) (by rw [List.getElem?_append_right (by omega), Nat.add_sub_cancel_left]; exact hj) e
  omega
/-- behind a call with the middle part -/
theorem z2_join {A0 : Nat → Prop} {D : va_G} {cl : List vw_C} {a u b u1 : va_W} {H H1 : Heap} (hP : va_P D cl (a ++ (u ++ b)) H) (hD : va_D A0 (a ++ (u ++ b))) (hk : ∀ q : Nat, q < H.size → ¬ va_A u H.size q → H1[q]? = H[q]?) (hF : ∀ q : Nat, va_A u H.size q → A0 q) (hP1 : va_P D cl u1 H1) (hD1 : va_D (va_A u H.size) u1) : va_P D cl (a ++ (u1 ++ b)) H1 ∧ va_D A0 (a ++ (u1 ++ b)) := by
  have na : ∀ (k : Nat) (q : Nat × va_E), a[k]? = some q → q.1 < H.size ∧ ¬ va_A u H.size q.1 := by
    intro k q hq
    have hl := (z2_Pl hP k q hq).lt
    refine ⟨hl, fun h => ?_⟩
    rcases h with ⟨j, e, h⟩ | h
    · exact z2_Dx hD k j q (q.1, e) hq (by rw [List.getElem?_append_left (List.getElem?_eq_some_iff.mp h).1]; exact h) rfl
    · omega
  have nb : ∀ (k : Nat) (q : Nat × va_E), b[k]? = some q → q.1 < H.size ∧ ¬ va_A u H.size q.1 := by
    intro k q hq
    have hl := (z2_Pr (z2_Pr hP) k q hq).lt
    refine ⟨hl, fun h => ?_⟩
    rcases h with ⟨j, e, h⟩ | h
    · exact z2_Dx (z2_Dr hD) j k (q.1, e) q h hq rfl
    · omega
  refine ⟨va_P.app (fun k q hq => ((z2_Pl hP) k q hq).kept (hk q.1 (na k q hq).1 (na k q hq).2)) (va_P.app hP1 (fun k q hq => ((z2_Pr (z2_Pr hP)) k q hq).kept (hk q.1 (nb k q hq).1 (nb k q hq).2))), ?_⟩
  refine va_D.app (z2_Dl hD) (va_D.app (hD1.weaken (fun k q _ h => hF q.1 h)) (z2_Dr (z2_Dr hD)) (fun i j p q hi hj e => (nb j q hj).2 (by rw [← e]; exact hD1.2 i p hi))) (fun i j p q hi hj e => ?_)
  by_cases hl : j < u1.length
  · rw [List.getElem?_append_left hl] at hj
    exact (na i p hi).2 (by rw [e]; exact hD1.2 j q hj)
  · rw [List.getElem?_append_right (by omega)] at hj
    exact z2_Dx hD i (u.length + (j - u1.length)) p q hi (by rw [List.getElem?_append_right (by omega), Nat.add_sub_cancel_left]; exact hj) e
section Z2
variable {τ σ : Type} {Z : zz_T} {wT : τ → va_W} {u : σ → va_W} {own : String} {cc : ByteArray} {nL : Nat} {tys tysC : List (ClassId × FieldType)} {fr lc : Nat} {lv : List (Nat × Value)} {st : List Value} {U : τ} {F : σ}
theorem z2_calli {post : Int32 → σ → Prop} {y : MethodName} {cc' : ByteArray} {nL' fr' lc' idx ci : Nat} {ty : FieldType} {av rest : List Value} {h0 : Nat} {fs : List Value} {q : vw_C} (pc pc' n : Nat) (a b : va_W) (f : σ → τ) (K : zok Z own cc nL tys fr lc) (M : MI (zl Z) y cc' nL' ty fr' lc' (zD Z) tysC u (.ref h0 :: av) F post) (hKc : va_K (zD Z) vwCl tysC (zs Z)) (e0 : wT U = a ++ (u F ++ b)) (e1 : ∀ F', wT (f F') = a ++ (u F' ++ b)) (hG : GoodIn lw_all (wsV own idx y.cls y (ws_ y cc' nL' (some ty)))) (hd : y.cls = q.1 ∧ y.cls ≠ "java/lang/invoke/MethodHandle" ∧ y.cls ≠ "java/lang/invoke/VarHandle" ∧ (parseMethodDescriptor y.desc).map (fun d => d.parameters.length) = some n) (hR : fr' + 1 ≤ fr ∧ 8 + (nL' + 11) + lc' ≤ lc) (hc : vwCl[ci]? = some q) (he : (u F)[0]? = some (h0, .inr (ci, fs))) (hn : av.length = n) (hst : st = av.reverse ++ .ref h0 :: rest) (hrm : (rest.map fun v => v.category).sum ≤ 8) (hdg : decode cc pc = .ok (.invokevirtual idx, 3)) (hpc : pc + 3 = pc')
    (h : ∀ (r : Int32) (F' : σ), post r F' → zG Z wT pc' lv (.int r :: rest) (f F')) : zG Z wT pc lv st U := by
  subst hpc; subst hst
  intro H locs ls hP hD hS hl
  rw [e0] at hP hD
  obtain ⟨hx, hb, hzn, hml, hown, hts, hlk, hK, hA, hfr, hlc, hce, hsl⟩ := K
  have hPc := z2_Pl (z2_Pr hP)
  have hDc := z2_Dl (z2_Dr hD)
  have hFc := z_free hDc hS hA
  refine va_calli (va_runV (As := av) (rest := rest) (C := q.1) (mc := 0) (ms := 0) (Ts := lw_all) ⟨hx, hb, hml, hown, hts⟩ (M H.size) (cwV n hts (by rw [← hd.1]; exact hG) rfl rfl rfl hd ⟨by rw [hfr]; exact hR.1, by rw [hlc]; exact hR.2⟩) ⟨fun a U g mk q => by obtain ⟨q0, q1, qP, qK, qD⟩ := q; exact ⟨q0, q1, qP, va_K.moved (u := U) (U := U.calling g mk a) (Vm.Alike.refl U.vm) qK, qD⟩, va_recv hKc hPc hc he, fun U hU hW => ⟨rfl, by rw [hU], by rw [hU]; exact hPc, va_K.moved hW.alike hKc, hDc.weaken (fun _ _ _ _ => trivial)⟩⟩ rfl hn (hl.1.trans hzn) rfl (lv_room hrm) hdg ⟨hce, hsl⟩) hS (fun q _ h => hFc q h) hFc (fun r F' t H1 locs1 ht hvm hp hB hz1 hk1 hS1 => ?_)
  obtain ⟨hP1, hK1, hD1⟩ := hB
  rw [ht] at hP1
  obtain ⟨hP2, hD2⟩ := z2_join hP hD hk1 hFc hP1 hD1
  exact h r F' hp H1 locs1 ls (by rw [e1]; exact hP2) (by rw [e1]; exact hD2) hS1 hl
theorem z2_callv {post : σ → Prop} {y : MethodName} {cc' : ByteArray} {nL' fr' lc' idx ci : Nat} {av rest : List Value} {h0 : Nat} {fs : List Value} {q : vw_C} (pc pc' n : Nat) (a b : va_W) (f : σ → τ) (K : zok Z own cc nL tys fr lc) (M : MV (zl Z) y cc' nL' fr' lc' (zD Z) tysC u (.ref h0 :: av) F post) (hKc : va_K (zD Z) vwCl tysC (zs Z)) (e0 : wT U = a ++ (u F ++ b)) (e1 : ∀ F', wT (f F') = a ++ (u F' ++ b)) (hG : GoodIn lw_all (wsV own idx y.cls y (ws_ y cc' nL' none))) (hd : y.cls = q.1 ∧ y.cls ≠ "java/lang/invoke/MethodHandle" ∧ y.cls ≠ "java/lang/invoke/VarHandle" ∧ (parseMethodDescriptor y.desc).map (fun d => d.parameters.length) = some n) (hR : fr' + 1 ≤ fr ∧ 8 + (nL' + 11) + lc' ≤ lc) (hc : vwCl[ci]? = some q) (he : (u F)[0]? = some (h0, .inr (ci, fs))) (hn : av.length = n) (hst : st = av.reverse ++ .ref h0 :: rest) (hrm : (rest.map fun v => v.category).sum ≤ 8) (hdg : decode cc pc = .ok (.invokevirtual idx, 3)) (hpc : pc + 3 = pc')
    (h : ∀ (F' : σ), post F' → zG Z wT pc' lv rest (f F')) : zG Z wT pc lv st U := by
  subst hpc; subst hst
  intro H locs ls hP hD hS hl
  rw [e0] at hP hD
  obtain ⟨hx, hb, hzn, hml, hown, hts, hlk, hK, hA, hfr, hlc, hce, hsl⟩ := K
  have hPc := z2_Pl (z2_Pr hP)
  have hDc := z2_Dl (z2_Dr hD)
  have hFc := z_free hDc hS hA
  refine va_callv (va_runV (As := av) (rest := rest) (C := q.1) (mc := 0) (ms := 0) (Ts := lw_all) ⟨hx, hb, hml, hown, hts⟩ (M H.size) (cwV n hts (by rw [← hd.1]; exact hG) rfl rfl rfl hd ⟨by rw [hfr]; exact hR.1, by rw [hlc]; exact hR.2⟩) ⟨fun a U g mk q => by obtain ⟨q0, q1, qP, qK, qD⟩ := q; exact ⟨q0, q1, qP, va_K.moved (u := U) (U := U.calling g mk a) (Vm.Alike.refl U.vm) qK, qD⟩, va_recv hKc hPc hc he, fun U hU hW => ⟨rfl, by rw [hU], by rw [hU]; exact hPc, va_K.moved hW.alike hKc, hDc.weaken (fun _ _ _ _ => trivial)⟩⟩ rfl hn (hl.1.trans hzn) rfl (lv_room hrm) hdg ⟨hce, hsl⟩) hS (fun q _ h => hFc q h) hFc (fun F' t H1 locs1 ht hvm hp hB hz1 hk1 hS1 => ?_)
  obtain ⟨hP1, hK1, hD1⟩ := hB
  rw [ht] at hP1
  obtain ⟨hP2, hD2⟩ := z2_join hP hD hk1 hFc hP1 hD1
  exact h F' hp H1 locs1 ls (by rw [e1]; exact hP2) (by rw [e1]; exact hD2) hS1 hl
/-- the script, apart from what may be written -/
def zscr (Z : zz_T) (b L : Nat) (xs : Nat → Int32) : Prop := va_X b L xs (zs Z) (zs Z).heap ∧ b < (zs Z).heap.size ∧ ¬ zA Z b
theorem z2_sld {b L : Nat} {xs : Nat → Int32} (pc pc' : Nat) (K : zok Z own cc nL tys fr lc) (S : zscr Z b L xs) (j : Nat) {i : Int32} (hi : i = nI j) (hj : j < L) (hL : L < 2 ^ 31) (hdg : decode cc pc = .ok (.iaload, 1)) (hpc : pc + 1 = pc') (h : zG Z wT pc' lv (.int (xs j) :: st) U) : zG Z wT pc lv (.int i :: .ref b :: st) U := by
  subst hpc; subst hi
  intro H locs ls hP hD hS hl
  refine va_sld K.1 K.2.1 S.1 S.2.1 S.2.2 hS (vp_in_nI hj hL) hdg ?_
  rw [nI_clamp (by omega)]
  exact h H locs ls hP hD hS hl
theorem z2_slen {b L : Nat} {xs : Nat → Int32} (pc pc' : Nat) (K : zok Z own cc nL tys fr lc) (S : zscr Z b L xs) (hdg : decode cc pc = .ok (.arraylength, 1)) (hpc : pc + 1 = pc') (h : zG Z wT pc' lv (.int (nI L) :: st) U) : zG Z wT pc lv (.ref b :: st) U := by
  subst hpc
  intro H locs ls hP hD hS hl
  exact va_slen K.1 K.2.1 S.1 S.2.1 S.2.2 hS hdg (h H locs ls hP hD hS hl)
theorem z2_table (pc tgt : Nat) (K : zok Z own cc nL tys fr lc) {dflt lo hi off : Int} {offs : Array Int} {len : Nat} {x : Int32} (hdg : decode cc pc = .ok (.tableswitch dflt lo hi offs, len)) (h1 : ¬ x.toInt < lo) (h2 : ¬ hi < x.toInt) (ho : offs[(x.toInt - lo).toNat]? = some off) (ht : (pc : Int) + off = (tgt : Int)) (h : zG Z wT tgt lv st U) : zG Z wT pc lv (.int x :: st) U :=
  fun H locs ls hP hD hS hl => lv_tableIn K.1 K.2.1 hdg h1 h2 ho ht (h H locs ls hP hD hS hl)
end Z2
/-- the law's world: the class's object and the reference's -/
def w2 (h1 : Nat) (ad1 : Nat → Nat) (cs1 : Nat → ClassId) (h2 : Nat) (ad2 : Nat → Nat) (cs2 : Nat → ClassId) (u : (Nat → Nat → Int32) × (Nat → Nat → Int32)) : va_W := wX h1 ad1 cs1 u.1 ++ (wM h2 ad2 cs2 u.2 ++ [])
theorem zi4_le {L i : Nat} (hL : L ≤ 256) (hi : i ≤ 1000) (h : ¬ nI L - 4 < nI i) : i + 4 ≤ L := by
  rw [Int32.lt_iff_toInt_lt] at h
  have e : (nI L - 4).toInt = (L : Int) - 4 := pk_sub_toInt (a := L) (b := 4) (by omega) (by omega)
  rw [e, nI_toInt (by omega)] at h
  omega
end
section
/-! the law: its cases and its loop (printed by gen9.py) -/
set_option maxRecDepth 100000
theorem law_Kx {Z : zz_T} {cs1 cs2 : Nat → ClassId} {fr lc : Nat} (K : zok Z "SpecLoadSchedLaw" cL_law 4 (tyX cs1 ++ tyM cs2) fr lc) : va_K (zD Z) vwCl (tyX cs1) (zs Z) := K.2.2.2.2.2.2.2.1.sub [0, 1, 2, 3, 4, 5, 6, 7, 8, 9, 10, 11, 12, 13, 14, 15, 16, 17] rfl
theorem law_Km {Z : zz_T} {cs1 cs2 : Nat → ClassId} {fr lc : Nat} (K : zok Z "SpecLoadSchedLaw" cL_law 4 (tyX cs1 ++ tyM cs2) fr lc) : va_K (zD Z) vwCl (tyM cs2) (zs Z) := K.2.2.2.2.2.2.2.1.sub [18, 19, 20, 21, 22, 23, 24] rfl
set_option maxHeartbeats 4000000 in
set_option maxRecDepth 100000 in
theorem law_c0 {Z : zz_T} {b L i : Nat} {xs : Nat → Int32} {h1 : Nat} {ad1 : Nat → Nat} {cs1 : Nat → ClassId} {h2 : Nat} {ad2 : Nat → Nat} {cs2 : Nat → ClassId} {F M : Nat → Nat → Int32} (K : zok Z "SpecLoadSchedLaw" cL_law 4 (tyX cs1 ++ tyM cs2) 8 278) (S : zscr Z b L xs) (hL : L ≤ 256) (hi : i + 4 ≤ L) (hI : zI F M) (cont : ∀ F1 M1, zI F1 M1 → zG Z (w2 h1 ad1 cs1 h2 ad2 cs2) 558 [(3, .int (nI i)), (2, .ref h2), (1, .ref h1), (0, .ref b)] [] (F1, M1)) : zG Z (w2 h1 ad1 cs1 h2 ad2 cs2) 112 [(3, .int (nI i)), (2, .ref h2), (1, .ref h1), (0, .ref b)] [] (F, M) := by
  obtain ⟨n, hinv⟩ := hI
  obtain ⟨i0, i1, i14, iw, i6, i7, i8, i9, ir⟩ := id hinv
  refine z_aload_n 112 113 K 2 dL_law_112 rfl rfl rfl ?_
  refine z_aload_n 113 114 K 3 dL_law_113 rfl rfl rfl ?_
  refine z_iload_n 114 115 K 0 dL_law_114 rfl rfl rfl ?_
  refine z_iconst 115 116 K (nI 1) dL_law_115 rfl (by decide) ?_
  refine z_iadd 116 117 K dL_law_116 rfl ?_
  refine z_top 117 (nI (i + 1)) (nI_add _ _) ?_
  refine z2_sld 117 118 K S (i + 1) rfl (by omega) (by omega) dL_law_117 rfl ?_
  refine z_aload_n 118 119 K 3 dL_law_118 rfl rfl rfl ?_
  refine z_iload_n 119 120 K 0 dL_law_119 rfl rfl rfl ?_
  refine z_iconst 120 121 K (nI 2) dL_law_120 rfl (by decide) ?_
  refine z_iadd 121 122 K dL_law_121 rfl ?_
  refine z_top 122 (nI (i + 2)) (nI_add _ _) ?_
  refine z2_sld 122 123 K S (i + 2) rfl (by omega) (by omega) dL_law_122 rfl ?_
  refine z2_calli (ci := 0) (q := (RX0, TX0, 23)) 123 126 2 [] (wM h2 ad2 cs2 M ++ []) (fun F2 => (F2, M)) K (m_constant (zl Z) (zD Z) h1 ad1 cs1 F n i0 i14 (xs (i + 1)) (xs (i + 2))) (law_Kx K) rfl (fun _ => rfl) (lw_V q110 q111 q112 q28 q113) (by decide +kernel) ⟨by decide, by decide⟩ rfl rfl rfl rfl (Nat.le_of_ble_eq_true rfl) dL_law_123 rfl (fun r1 F1 hx => ?_)
  refine z_aload_n 126 127 K 1 dL_law_126 rfl rfl rfl ?_
  refine z_aload_n 127 128 K 3 dL_law_127 rfl rfl rfl ?_
  refine z_iload_n 128 129 K 0 dL_law_128 rfl rfl rfl ?_
  refine z_iconst 129 130 K (nI 1) dL_law_129 rfl (by decide) ?_
  refine z_iadd 130 131 K dL_law_130 rfl ?_
  refine z_top 131 (nI (i + 1)) (nI_add _ _) ?_
  refine z2_sld 131 132 K S (i + 1) rfl (by omega) (by omega) dL_law_131 rfl ?_
  refine z_aload_n 132 133 K 3 dL_law_132 rfl rfl rfl ?_
  refine z_iload_n 133 134 K 0 dL_law_133 rfl rfl rfl ?_
  refine z_iconst 134 135 K (nI 2) dL_law_134 rfl (by decide) ?_
  refine z_iadd 135 136 K dL_law_135 rfl ?_
  refine z_top 136 (nI (i + 2)) (nI_add _ _) ?_
  refine z2_sld 136 137 K S (i + 2) rfl (by omega) (by omega) dL_law_136 rfl ?_
  refine z2_calli (ci := 1) (q := (RX1, TX1, 9)) 137 140 2 (wX h1 ad1 cs1 F1) [] (fun M2 => (F1, M2)) K (n_constant (zl Z) (zD Z) h2 ad2 cs2 M n i1 i14 (xs (i + 1)) (xs (i + 2))) (law_Km K) rfl (fun _ => rfl) (lw_V q301 q302 q303 q29 q304) (by decide +kernel) ⟨by decide, by decide⟩ rfl rfl rfl rfl (Nat.le_of_ble_eq_true rfl) dL_law_137 rfl (fun r2 M1 hm => ?_)
  have hz := zI_app hinv (fun hb => Or.inl ⟨rfl, rfl, zbadR_in hb, rfl, rfl, rfl, rfl⟩) hx hm
  refine z_icmp_eq 140 143 558 K dL_law_140 rfl (by decide) (fun c => ?_) (fun c => ?_)
  · exact cont F1 M1 hz.2
  · exact absurd hz.1 c

set_option maxHeartbeats 4000000 in
set_option maxRecDepth 100000 in
theorem law_c1 {Z : zz_T} {b L i : Nat} {xs : Nat → Int32} {h1 : Nat} {ad1 : Nat → Nat} {cs1 : Nat → ClassId} {h2 : Nat} {ad2 : Nat → Nat} {cs2 : Nat → ClassId} {F M : Nat → Nat → Int32} (K : zok Z "SpecLoadSchedLaw" cL_law 4 (tyX cs1 ++ tyM cs2) 8 278) (S : zscr Z b L xs) (hL : L ≤ 256) (hi : i + 4 ≤ L) (hI : zI F M) (cont : ∀ F1 M1, zI F1 M1 → zG Z (w2 h1 ad1 cs1 h2 ad2 cs2) 558 [(3, .int (nI i)), (2, .ref h2), (1, .ref h1), (0, .ref b)] [] (F1, M1)) : zG Z (w2 h1 ad1 cs1 h2 ad2 cs2) 145 [(3, .int (nI i)), (2, .ref h2), (1, .ref h1), (0, .ref b)] [] (F, M) := by
  obtain ⟨n, hinv⟩ := hI
  obtain ⟨i0, i1, i14, iw, i6, i7, i8, i9, ir⟩ := id hinv
  refine z_aload_n 145 146 K 2 dL_law_145 rfl rfl rfl ?_
  refine z_aload_n 146 147 K 3 dL_law_146 rfl rfl rfl ?_
  refine z_iload_n 147 148 K 0 dL_law_147 rfl rfl rfl ?_
  refine z_iconst 148 149 K (nI 1) dL_law_148 rfl (by decide) ?_
  refine z_iadd 149 150 K dL_law_149 rfl ?_
  refine z_top 150 (nI (i + 1)) (nI_add _ _) ?_
  refine z2_sld 150 151 K S (i + 1) rfl (by omega) (by omega) dL_law_150 rfl ?_
  refine z_aload_n 151 152 K 3 dL_law_151 rfl rfl rfl ?_
  refine z_iload_n 152 153 K 0 dL_law_152 rfl rfl rfl ?_
  refine z_iconst 153 154 K (nI 2) dL_law_153 rfl (by decide) ?_
  refine z_iadd 154 155 K dL_law_154 rfl ?_
  refine z_top 155 (nI (i + 2)) (nI_add _ _) ?_
  refine z2_sld 155 156 K S (i + 2) rfl (by omega) (by omega) dL_law_155 rfl ?_
  refine z_aload_n 156 157 K 3 dL_law_156 rfl rfl rfl ?_
  refine z_iload_n 157 158 K 0 dL_law_157 rfl rfl rfl ?_
  refine z_iconst 158 159 K (nI 3) dL_law_158 rfl (by decide) ?_
  refine z_iadd 159 160 K dL_law_159 rfl ?_
  refine z_top 160 (nI (i + 3)) (nI_add _ _) ?_
  refine z2_sld 160 161 K S (i + 3) rfl (by omega) (by omega) dL_law_160 rfl ?_
  refine z2_calli (ci := 0) (q := (RX0, TX0, 23)) 161 164 3 [] (wM h2 ad2 cs2 M ++ []) (fun F2 => (F2, M)) K (m_add (zl Z) (zD Z) h1 ad1 cs1 F n i0 i14 (xs (i + 1)) (xs (i + 2)) (xs (i + 3))) (law_Kx K) rfl (fun _ => rfl) (lw_V q122 q123 q124 q28 q125) (by decide +kernel) ⟨by decide, by decide⟩ rfl rfl rfl rfl (Nat.le_of_ble_eq_true rfl) dL_law_161 rfl (fun r1 F1 hx => ?_)
  refine z_aload_n 164 165 K 1 dL_law_164 rfl rfl rfl ?_
  refine z_aload_n 165 166 K 3 dL_law_165 rfl rfl rfl ?_
  refine z_iload_n 166 167 K 0 dL_law_166 rfl rfl rfl ?_
  refine z_iconst 167 168 K (nI 1) dL_law_167 rfl (by decide) ?_
  refine z_iadd 168 169 K dL_law_168 rfl ?_
  refine z_top 169 (nI (i + 1)) (nI_add _ _) ?_
  refine z2_sld 169 170 K S (i + 1) rfl (by omega) (by omega) dL_law_169 rfl ?_
  refine z_aload_n 170 171 K 3 dL_law_170 rfl rfl rfl ?_
  refine z_iload_n 171 172 K 0 dL_law_171 rfl rfl rfl ?_
  refine z_iconst 172 173 K (nI 2) dL_law_172 rfl (by decide) ?_
  refine z_iadd 173 174 K dL_law_173 rfl ?_
  refine z_top 174 (nI (i + 2)) (nI_add _ _) ?_
  refine z2_sld 174 175 K S (i + 2) rfl (by omega) (by omega) dL_law_174 rfl ?_
  refine z_aload_n 175 176 K 3 dL_law_175 rfl rfl rfl ?_
  refine z_iload_n 176 177 K 0 dL_law_176 rfl rfl rfl ?_
  refine z_iconst 177 178 K (nI 3) dL_law_177 rfl (by decide) ?_
  refine z_iadd 178 179 K dL_law_178 rfl ?_
  refine z_top 179 (nI (i + 3)) (nI_add _ _) ?_
  refine z2_sld 179 180 K S (i + 3) rfl (by omega) (by omega) dL_law_179 rfl ?_
  refine z2_calli (ci := 1) (q := (RX1, TX1, 9)) 180 183 3 (wX h1 ad1 cs1 F1) [] (fun M2 => (F1, M2)) K (n_add (zl Z) (zD Z) h2 ad2 cs2 M n i1 i14 (xs (i + 1)) (xs (i + 2)) (xs (i + 3))) (law_Km K) rfl (fun _ => rfl) (lw_V q313 q314 q315 q29 q316) (by decide +kernel) ⟨by decide, by decide⟩ rfl rfl rfl rfl (Nat.le_of_ble_eq_true rfl) dL_law_180 rfl (fun r2 M1 hm => ?_)
  have hz := zI_app hinv (fun hb => Or.inr (Or.inl ⟨rfl, rfl, zbadR_in (fun z => hb (Or.inl z)), zbadR_in (fun z => hb (Or.inr (Or.inl z))), zbadR_in (fun z => hb (Or.inr (Or.inr z))), rfl, rfl, rfl⟩)) hx hm
  refine z_icmp_eq 183 186 558 K dL_law_183 rfl (by decide) (fun c => ?_) (fun c => ?_)
  · exact cont F1 M1 hz.2
  · exact absurd hz.1 c

set_option maxHeartbeats 4000000 in
set_option maxRecDepth 100000 in
theorem law_c2 {Z : zz_T} {b L i : Nat} {xs : Nat → Int32} {h1 : Nat} {ad1 : Nat → Nat} {cs1 : Nat → ClassId} {h2 : Nat} {ad2 : Nat → Nat} {cs2 : Nat → ClassId} {F M : Nat → Nat → Int32} (K : zok Z "SpecLoadSchedLaw" cL_law 4 (tyX cs1 ++ tyM cs2) 8 278) (S : zscr Z b L xs) (hL : L ≤ 256) (hi : i + 4 ≤ L) (hI : zI F M) (cont : ∀ F1 M1, zI F1 M1 → zG Z (w2 h1 ad1 cs1 h2 ad2 cs2) 558 [(3, .int (nI i)), (2, .ref h2), (1, .ref h1), (0, .ref b)] [] (F1, M1)) : zG Z (w2 h1 ad1 cs1 h2 ad2 cs2) 188 [(3, .int (nI i)), (2, .ref h2), (1, .ref h1), (0, .ref b)] [] (F, M) := by
  obtain ⟨n, hinv⟩ := hI
  obtain ⟨i0, i1, i14, iw, i6, i7, i8, i9, ir⟩ := id hinv
  refine z_aload_n 188 189 K 2 dL_law_188 rfl rfl rfl ?_
  refine z_aload_n 189 190 K 3 dL_law_189 rfl rfl rfl ?_
  refine z_iload_n 190 191 K 0 dL_law_190 rfl rfl rfl ?_
  refine z_iconst 191 192 K (nI 1) dL_law_191 rfl (by decide) ?_
  refine z_iadd 192 193 K dL_law_192 rfl ?_
  refine z_top 193 (nI (i + 1)) (nI_add _ _) ?_
  refine z2_sld 193 194 K S (i + 1) rfl (by omega) (by omega) dL_law_193 rfl ?_
  refine z_aload_n 194 195 K 3 dL_law_194 rfl rfl rfl ?_
  refine z_iload_n 195 196 K 0 dL_law_195 rfl rfl rfl ?_
  refine z_iconst 196 197 K (nI 2) dL_law_196 rfl (by decide) ?_
  refine z_iadd 197 198 K dL_law_197 rfl ?_
  refine z_top 198 (nI (i + 2)) (nI_add _ _) ?_
  refine z2_sld 198 199 K S (i + 2) rfl (by omega) (by omega) dL_law_198 rfl ?_
  refine z_aload_n 199 200 K 3 dL_law_199 rfl rfl rfl ?_
  refine z_iload_n 200 201 K 0 dL_law_200 rfl rfl rfl ?_
  refine z_iconst 201 202 K (nI 3) dL_law_201 rfl (by decide) ?_
  refine z_iadd 202 203 K dL_law_202 rfl ?_
  refine z_top 203 (nI (i + 3)) (nI_add _ _) ?_
  refine z2_sld 203 204 K S (i + 3) rfl (by omega) (by omega) dL_law_203 rfl ?_
  refine z2_calli (ci := 0) (q := (RX0, TX0, 23)) 204 207 3 [] (wM h2 ad2 cs2 M ++ []) (fun F2 => (F2, M)) K (m_subtract (zl Z) (zD Z) h1 ad1 cs1 F n i0 i14 (xs (i + 1)) (xs (i + 2)) (xs (i + 3))) (law_Kx K) rfl (fun _ => rfl) (lw_V q126 q127 q128 q28 q129) (by decide +kernel) ⟨by decide, by decide⟩ rfl rfl rfl rfl (Nat.le_of_ble_eq_true rfl) dL_law_204 rfl (fun r1 F1 hx => ?_)
  refine z_aload_n 207 208 K 1 dL_law_207 rfl rfl rfl ?_
  refine z_aload_n 208 209 K 3 dL_law_208 rfl rfl rfl ?_
  refine z_iload_n 209 210 K 0 dL_law_209 rfl rfl rfl ?_
  refine z_iconst 210 211 K (nI 1) dL_law_210 rfl (by decide) ?_
  refine z_iadd 211 212 K dL_law_211 rfl ?_
  refine z_top 212 (nI (i + 1)) (nI_add _ _) ?_
  refine z2_sld 212 213 K S (i + 1) rfl (by omega) (by omega) dL_law_212 rfl ?_
  refine z_aload_n 213 214 K 3 dL_law_213 rfl rfl rfl ?_
  refine z_iload_n 214 215 K 0 dL_law_214 rfl rfl rfl ?_
  refine z_iconst 215 216 K (nI 2) dL_law_215 rfl (by decide) ?_
  refine z_iadd 216 217 K dL_law_216 rfl ?_
  refine z_top 217 (nI (i + 2)) (nI_add _ _) ?_
  refine z2_sld 217 218 K S (i + 2) rfl (by omega) (by omega) dL_law_217 rfl ?_
  refine z_aload_n 218 219 K 3 dL_law_218 rfl rfl rfl ?_
  refine z_iload_n 219 220 K 0 dL_law_219 rfl rfl rfl ?_
  refine z_iconst 220 221 K (nI 3) dL_law_220 rfl (by decide) ?_
  refine z_iadd 221 222 K dL_law_221 rfl ?_
  refine z_top 222 (nI (i + 3)) (nI_add _ _) ?_
  refine z2_sld 222 223 K S (i + 3) rfl (by omega) (by omega) dL_law_222 rfl ?_
  refine z2_calli (ci := 1) (q := (RX1, TX1, 9)) 223 226 3 (wX h1 ad1 cs1 F1) [] (fun M2 => (F1, M2)) K (n_subtract (zl Z) (zD Z) h2 ad2 cs2 M n i1 i14 (xs (i + 1)) (xs (i + 2)) (xs (i + 3))) (law_Km K) rfl (fun _ => rfl) (lw_V q317 q318 q319 q29 q320) (by decide +kernel) ⟨by decide, by decide⟩ rfl rfl rfl rfl (Nat.le_of_ble_eq_true rfl) dL_law_223 rfl (fun r2 M1 hm => ?_)
  have hz := zI_app hinv (fun hb => Or.inr (Or.inr (Or.inl ⟨rfl, rfl, zbadR_in (fun z => hb (Or.inl z)), zbadR_in (fun z => hb (Or.inr (Or.inl z))), zbadR_in (fun z => hb (Or.inr (Or.inr z))), rfl, rfl, rfl⟩))) hx hm
  refine z_icmp_eq 226 229 558 K dL_law_226 rfl (by decide) (fun c => ?_) (fun c => ?_)
  · exact cont F1 M1 hz.2
  · exact absurd hz.1 c

set_option maxHeartbeats 4000000 in
set_option maxRecDepth 100000 in
theorem law_c3 {Z : zz_T} {b L i : Nat} {xs : Nat → Int32} {h1 : Nat} {ad1 : Nat → Nat} {cs1 : Nat → ClassId} {h2 : Nat} {ad2 : Nat → Nat} {cs2 : Nat → ClassId} {F M : Nat → Nat → Int32} (K : zok Z "SpecLoadSchedLaw" cL_law 4 (tyX cs1 ++ tyM cs2) 8 278) (S : zscr Z b L xs) (hL : L ≤ 256) (hi : i + 4 ≤ L) (hI : zI F M) (cont : ∀ F1 M1, zI F1 M1 → zG Z (w2 h1 ad1 cs1 h2 ad2 cs2) 558 [(3, .int (nI i)), (2, .ref h2), (1, .ref h1), (0, .ref b)] [] (F1, M1)) : zG Z (w2 h1 ad1 cs1 h2 ad2 cs2) 231 [(3, .int (nI i)), (2, .ref h2), (1, .ref h1), (0, .ref b)] [] (F, M) := by
  obtain ⟨n, hinv⟩ := hI
  obtain ⟨i0, i1, i14, iw, i6, i7, i8, i9, ir⟩ := id hinv
  refine z_aload_n 231 232 K 2 dL_law_231 rfl rfl rfl ?_
  refine z_aload_n 232 233 K 3 dL_law_232 rfl rfl rfl ?_
  refine z_iload_n 233 234 K 0 dL_law_233 rfl rfl rfl ?_
  refine z_iconst 234 235 K (nI 1) dL_law_234 rfl (by decide) ?_
  refine z_iadd 235 236 K dL_law_235 rfl ?_
  refine z_top 236 (nI (i + 1)) (nI_add _ _) ?_
  refine z2_sld 236 237 K S (i + 1) rfl (by omega) (by omega) dL_law_236 rfl ?_
  refine z_aload_n 237 238 K 3 dL_law_237 rfl rfl rfl ?_
  refine z_iload_n 238 239 K 0 dL_law_238 rfl rfl rfl ?_
  refine z_iconst 239 240 K (nI 2) dL_law_239 rfl (by decide) ?_
  refine z_iadd 240 241 K dL_law_240 rfl ?_
  refine z_top 241 (nI (i + 2)) (nI_add _ _) ?_
  refine z2_sld 241 242 K S (i + 2) rfl (by omega) (by omega) dL_law_241 rfl ?_
  refine z_aload_n 242 243 K 3 dL_law_242 rfl rfl rfl ?_
  refine z_iload_n 243 244 K 0 dL_law_243 rfl rfl rfl ?_
  refine z_iconst 244 245 K (nI 3) dL_law_244 rfl (by decide) ?_
  refine z_iadd 245 246 K dL_law_245 rfl ?_
  refine z_top 246 (nI (i + 3)) (nI_add _ _) ?_
  refine z2_sld 246 247 K S (i + 3) rfl (by omega) (by omega) dL_law_246 rfl ?_
  refine z2_calli (ci := 0) (q := (RX0, TX0, 23)) 247 250 3 [] (wM h2 ad2 cs2 M ++ []) (fun F2 => (F2, M)) K (m_load (zl Z) (zD Z) h1 ad1 cs1 F n i0 i14 (xs (i + 1)) (xs (i + 2)) (xs (i + 3))) (law_Kx K) rfl (fun _ => rfl) (lw_V q130 q131 q132 q28 q133) (by decide +kernel) ⟨by decide, by decide⟩ rfl rfl rfl rfl (Nat.le_of_ble_eq_true rfl) dL_law_247 rfl (fun r1 F1 hx => ?_)
  refine z_aload_n 250 251 K 1 dL_law_250 rfl rfl rfl ?_
  refine z_aload_n 251 252 K 3 dL_law_251 rfl rfl rfl ?_
  refine z_iload_n 252 253 K 0 dL_law_252 rfl rfl rfl ?_
  refine z_iconst 253 254 K (nI 1) dL_law_253 rfl (by decide) ?_
  refine z_iadd 254 255 K dL_law_254 rfl ?_
  refine z_top 255 (nI (i + 1)) (nI_add _ _) ?_
  refine z2_sld 255 256 K S (i + 1) rfl (by omega) (by omega) dL_law_255 rfl ?_
  refine z_aload_n 256 257 K 3 dL_law_256 rfl rfl rfl ?_
  refine z_iload_n 257 258 K 0 dL_law_257 rfl rfl rfl ?_
  refine z_iconst 258 259 K (nI 2) dL_law_258 rfl (by decide) ?_
  refine z_iadd 259 260 K dL_law_259 rfl ?_
  refine z_top 260 (nI (i + 2)) (nI_add _ _) ?_
  refine z2_sld 260 261 K S (i + 2) rfl (by omega) (by omega) dL_law_260 rfl ?_
  refine z_aload_n 261 262 K 3 dL_law_261 rfl rfl rfl ?_
  refine z_iload_n 262 263 K 0 dL_law_262 rfl rfl rfl ?_
  refine z_iconst 263 264 K (nI 3) dL_law_263 rfl (by decide) ?_
  refine z_iadd 264 265 K dL_law_264 rfl ?_
  refine z_top 265 (nI (i + 3)) (nI_add _ _) ?_
  refine z2_sld 265 266 K S (i + 3) rfl (by omega) (by omega) dL_law_265 rfl ?_
  refine z2_calli (ci := 1) (q := (RX1, TX1, 9)) 266 269 3 (wX h1 ad1 cs1 F1) [] (fun M2 => (F1, M2)) K (n_load (zl Z) (zD Z) h2 ad2 cs2 M n i1 i14 (xs (i + 1)) (xs (i + 2)) (xs (i + 3))) (law_Km K) rfl (fun _ => rfl) (lw_V q321 q322 q323 q29 q324) (by decide +kernel) ⟨by decide, by decide⟩ rfl rfl rfl rfl (Nat.le_of_ble_eq_true rfl) dL_law_266 rfl (fun r2 M1 hm => ?_)
  have hz := zI_app hinv (fun hb => Or.inr (Or.inr (Or.inr (Or.inl ⟨rfl, rfl, zbadR_in (fun z => hb (Or.inl z)), zbadR_in (fun z => hb (Or.inr (Or.inl z))), rfl, rfl, rfl, rfl⟩)))) hx hm
  refine z_icmp_eq 269 272 558 K dL_law_269 rfl (by decide) (fun c => ?_) (fun c => ?_)
  · exact cont F1 M1 hz.2
  · exact absurd hz.1 c

set_option maxHeartbeats 4000000 in
set_option maxRecDepth 100000 in
theorem law_c4 {Z : zz_T} {b L i : Nat} {xs : Nat → Int32} {h1 : Nat} {ad1 : Nat → Nat} {cs1 : Nat → ClassId} {h2 : Nat} {ad2 : Nat → Nat} {cs2 : Nat → ClassId} {F M : Nat → Nat → Int32} (K : zok Z "SpecLoadSchedLaw" cL_law 4 (tyX cs1 ++ tyM cs2) 8 278) (S : zscr Z b L xs) (hL : L ≤ 256) (hi : i + 4 ≤ L) (hI : zI F M) (cont : ∀ F1 M1, zI F1 M1 → zG Z (w2 h1 ad1 cs1 h2 ad2 cs2) 558 [(3, .int (nI i)), (2, .ref h2), (1, .ref h1), (0, .ref b)] [] (F1, M1)) : zG Z (w2 h1 ad1 cs1 h2 ad2 cs2) 274 [(3, .int (nI i)), (2, .ref h2), (1, .ref h1), (0, .ref b)] [] (F, M) := by
  obtain ⟨n, hinv⟩ := hI
  obtain ⟨i0, i1, i14, iw, i6, i7, i8, i9, ir⟩ := id hinv
  refine z_aload_n 274 275 K 2 dL_law_274 rfl rfl rfl ?_
  refine z_aload_n 275 276 K 3 dL_law_275 rfl rfl rfl ?_
  refine z_iload_n 276 277 K 0 dL_law_276 rfl rfl rfl ?_
  refine z_iconst 277 278 K (nI 1) dL_law_277 rfl (by decide) ?_
  refine z_iadd 278 279 K dL_law_278 rfl ?_
  refine z_top 279 (nI (i + 1)) (nI_add _ _) ?_
  refine z2_sld 279 280 K S (i + 1) rfl (by omega) (by omega) dL_law_279 rfl ?_
  refine z_aload_n 280 281 K 3 dL_law_280 rfl rfl rfl ?_
  refine z_iload_n 281 282 K 0 dL_law_281 rfl rfl rfl ?_
  refine z_iconst 282 283 K (nI 2) dL_law_282 rfl (by decide) ?_
  refine z_iadd 283 284 K dL_law_283 rfl ?_
  refine z_top 284 (nI (i + 2)) (nI_add _ _) ?_
  refine z2_sld 284 285 K S (i + 2) rfl (by omega) (by omega) dL_law_284 rfl ?_
  refine z_aload_n 285 286 K 3 dL_law_285 rfl rfl rfl ?_
  refine z_iload_n 286 287 K 0 dL_law_286 rfl rfl rfl ?_
  refine z_iconst 287 288 K (nI 3) dL_law_287 rfl (by decide) ?_
  refine z_iadd 288 289 K dL_law_288 rfl ?_
  refine z_top 289 (nI (i + 3)) (nI_add _ _) ?_
  refine z2_sld 289 290 K S (i + 3) rfl (by omega) (by omega) dL_law_289 rfl ?_
  refine z2_calli (ci := 0) (q := (RX0, TX0, 23)) 290 293 3 [] (wM h2 ad2 cs2 M ++ []) (fun F2 => (F2, M)) K (m_store (zl Z) (zD Z) h1 ad1 cs1 F n i0 i14 (xs (i + 1)) (xs (i + 2)) (xs (i + 3))) (law_Kx K) rfl (fun _ => rfl) (lw_V q134 q135 q136 q28 q137) (by decide +kernel) ⟨by decide, by decide⟩ rfl rfl rfl rfl (Nat.le_of_ble_eq_true rfl) dL_law_290 rfl (fun r1 F1 hx => ?_)
  refine z_aload_n 293 294 K 1 dL_law_293 rfl rfl rfl ?_
  refine z_aload_n 294 295 K 3 dL_law_294 rfl rfl rfl ?_
  refine z_iload_n 295 296 K 0 dL_law_295 rfl rfl rfl ?_
  refine z_iconst 296 297 K (nI 1) dL_law_296 rfl (by decide) ?_
  refine z_iadd 297 298 K dL_law_297 rfl ?_
  refine z_top 298 (nI (i + 1)) (nI_add _ _) ?_
  refine z2_sld 298 299 K S (i + 1) rfl (by omega) (by omega) dL_law_298 rfl ?_
  refine z_aload_n 299 300 K 3 dL_law_299 rfl rfl rfl ?_
  refine z_iload_n 300 301 K 0 dL_law_300 rfl rfl rfl ?_
  refine z_iconst 301 302 K (nI 2) dL_law_301 rfl (by decide) ?_
  refine z_iadd 302 303 K dL_law_302 rfl ?_
  refine z_top 303 (nI (i + 2)) (nI_add _ _) ?_
  refine z2_sld 303 304 K S (i + 2) rfl (by omega) (by omega) dL_law_303 rfl ?_
  refine z_aload_n 304 305 K 3 dL_law_304 rfl rfl rfl ?_
  refine z_iload_n 305 306 K 0 dL_law_305 rfl rfl rfl ?_
  refine z_iconst 306 307 K (nI 3) dL_law_306 rfl (by decide) ?_
  refine z_iadd 307 308 K dL_law_307 rfl ?_
  refine z_top 308 (nI (i + 3)) (nI_add _ _) ?_
  refine z2_sld 308 309 K S (i + 3) rfl (by omega) (by omega) dL_law_308 rfl ?_
  refine z2_calli (ci := 1) (q := (RX1, TX1, 9)) 309 312 3 (wX h1 ad1 cs1 F1) [] (fun M2 => (F1, M2)) K (n_store (zl Z) (zD Z) h2 ad2 cs2 M n i1 i14 (xs (i + 1)) (xs (i + 2)) (xs (i + 3))) (law_Km K) rfl (fun _ => rfl) (lw_V q325 q326 q327 q29 q328) (by decide +kernel) ⟨by decide, by decide⟩ rfl rfl rfl rfl (Nat.le_of_ble_eq_true rfl) dL_law_309 rfl (fun r2 M1 hm => ?_)
  have hz := zI_app hinv (fun hb => Or.inr (Or.inr (Or.inr (Or.inr (Or.inl ⟨rfl, rfl, rfl, zbadR_in (fun z => hb (Or.inl z)), zbadR_in (fun z => hb (Or.inr (Or.inl z))), rfl, rfl, rfl⟩))))) hx hm
  refine z_icmp_eq 312 315 558 K dL_law_312 rfl (by decide) (fun c => ?_) (fun c => ?_)
  · exact cont F1 M1 hz.2
  · exact absurd hz.1 c

set_option maxHeartbeats 4000000 in
set_option maxRecDepth 100000 in
theorem law_c5 {Z : zz_T} {b L i : Nat} {xs : Nat → Int32} {h1 : Nat} {ad1 : Nat → Nat} {cs1 : Nat → ClassId} {h2 : Nat} {ad2 : Nat → Nat} {cs2 : Nat → ClassId} {F M : Nat → Nat → Int32} (K : zok Z "SpecLoadSchedLaw" cL_law 4 (tyX cs1 ++ tyM cs2) 8 278) (S : zscr Z b L xs) (hL : L ≤ 256) (hi : i + 4 ≤ L) (hI : zI F M) (cont : ∀ F1 M1, zI F1 M1 → zG Z (w2 h1 ad1 cs1 h2 ad2 cs2) 558 [(3, .int (nI i)), (2, .ref h2), (1, .ref h1), (0, .ref b)] [] (F1, M1)) : zG Z (w2 h1 ad1 cs1 h2 ad2 cs2) 317 [(3, .int (nI i)), (2, .ref h2), (1, .ref h1), (0, .ref b)] [] (F, M) := by
  obtain ⟨n, hinv⟩ := hI
  obtain ⟨i0, i1, i14, iw, i6, i7, i8, i9, ir⟩ := id hinv
  refine z_aload_n 317 318 K 2 dL_law_317 rfl rfl rfl ?_
  refine z_aload_n 318 319 K 3 dL_law_318 rfl rfl rfl ?_
  refine z_iload_n 319 320 K 0 dL_law_319 rfl rfl rfl ?_
  refine z_iconst 320 321 K (nI 1) dL_law_320 rfl (by decide) ?_
  refine z_iadd 321 322 K dL_law_321 rfl ?_
  refine z_top 322 (nI (i + 1)) (nI_add _ _) ?_
  refine z2_sld 322 323 K S (i + 1) rfl (by omega) (by omega) dL_law_322 rfl ?_
  refine z2_calli (ci := 0) (q := (RX0, TX0, 23)) 323 326 1 [] (wM h2 ad2 cs2 M ++ []) (fun F2 => (F2, M)) K (m_leave (zl Z) (zD Z) h1 ad1 cs1 F n i0 i14 (xs (i + 1))) (law_Kx K) rfl (fun _ => rfl) (lw_V q138 q139 q140 q28 q141) (by decide +kernel) ⟨by decide, by decide⟩ rfl rfl rfl rfl (Nat.le_of_ble_eq_true rfl) dL_law_323 rfl (fun r1 F1 hx => ?_)
  refine z_aload_n 326 327 K 1 dL_law_326 rfl rfl rfl ?_
  refine z_aload_n 327 328 K 3 dL_law_327 rfl rfl rfl ?_
  refine z_iload_n 328 329 K 0 dL_law_328 rfl rfl rfl ?_
  refine z_iconst 329 330 K (nI 1) dL_law_329 rfl (by decide) ?_
  refine z_iadd 330 331 K dL_law_330 rfl ?_
  refine z_top 331 (nI (i + 1)) (nI_add _ _) ?_
  refine z2_sld 331 332 K S (i + 1) rfl (by omega) (by omega) dL_law_331 rfl ?_
  refine z2_calli (ci := 1) (q := (RX1, TX1, 9)) 332 335 1 (wX h1 ad1 cs1 F1) [] (fun M2 => (F1, M2)) K (n_leave (zl Z) (zD Z) h2 ad2 cs2 M n i1 i14 (xs (i + 1))) (law_Km K) rfl (fun _ => rfl) (lw_V q329 q330 q331 q29 q332) (by decide +kernel) ⟨by decide, by decide⟩ rfl rfl rfl rfl (Nat.le_of_ble_eq_true rfl) dL_law_332 rfl (fun r2 M1 hm => ?_)
  have hz := zI_app hinv (fun hb => Or.inr (Or.inr (Or.inr (Or.inr (Or.inr ⟨rfl, rfl, rfl, zbadR_in hb, rfl, rfl⟩))))) hx hm
  refine z_icmp_eq 335 338 558 K dL_law_335 rfl (by decide) (fun c => ?_) (fun c => ?_)
  · exact cont F1 M1 hz.2
  · exact absurd hz.1 c

set_option maxHeartbeats 4000000 in
set_option maxRecDepth 100000 in
theorem law_c6 {Z : zz_T} {b L i : Nat} {xs : Nat → Int32} {h1 : Nat} {ad1 : Nat → Nat} {cs1 : Nat → ClassId} {h2 : Nat} {ad2 : Nat → Nat} {cs2 : Nat → ClassId} {F M : Nat → Nat → Int32} (K : zok Z "SpecLoadSchedLaw" cL_law 4 (tyX cs1 ++ tyM cs2) 8 278) (S : zscr Z b L xs) (hL : L ≤ 256) (hi : i + 4 ≤ L) (hI : zI F M) (cont : ∀ F1 M1, zI F1 M1 → zG Z (w2 h1 ad1 cs1 h2 ad2 cs2) 558 [(3, .int (nI i)), (2, .ref h2), (1, .ref h1), (0, .ref b)] [] (F1, M1)) : zG Z (w2 h1 ad1 cs1 h2 ad2 cs2) 340 [(3, .int (nI i)), (2, .ref h2), (1, .ref h1), (0, .ref b)] [] (F, M) := by
  obtain ⟨n, hinv⟩ := hI
  obtain ⟨i0, i1, i14, iw, i6, i7, i8, i9, ir⟩ := id hinv
  refine z_aload_n 340 341 K 2 dL_law_340 rfl rfl rfl ?_
  refine z2_calli (ci := 0) (q := (RX0, TX0, 23)) 341 344 0 [] (wM h2 ad2 cs2 M ++ []) (fun F2 => (F2, M)) K (m_size (zl Z) (zD Z) h1 ad1 cs1 F) (law_Kx K) rfl (fun _ => rfl) (lw_V q142 q143 q144 q28 q145) (by decide +kernel) ⟨by decide, by decide⟩ rfl rfl rfl rfl (Nat.le_of_ble_eq_true rfl) dL_law_341 rfl (fun r1 F1 hx => ?_)
  refine z_aload_n 344 345 K 1 dL_law_344 rfl rfl rfl ?_
  refine z2_calli (ci := 1) (q := (RX1, TX1, 9)) 345 348 0 (wX h1 ad1 cs1 F1) [] (fun M2 => (F1, M2)) K (n_size (zl Z) (zD Z) h2 ad2 cs2 M) (law_Km K) rfl (fun _ => rfl) (lw_V q333 q334 q335 q29 q336) (by decide +kernel) ⟨by decide, by decide⟩ rfl rfl rfl rfl (Nat.le_of_ble_eq_true rfl) dL_law_345 rfl (fun r2 M1 hm => ?_)
  have hz := zI_same hinv (i0.trans i1.symm) hx hm
  refine z_icmp_eq 348 351 558 K dL_law_348 rfl (by decide) (fun c => ?_) (fun c => ?_)
  · exact cont F1 M1 hz.2
  · exact absurd hz.1 c

set_option maxHeartbeats 4000000 in
set_option maxRecDepth 100000 in
theorem law_c7 {Z : zz_T} {b L i : Nat} {xs : Nat → Int32} {h1 : Nat} {ad1 : Nat → Nat} {cs1 : Nat → ClassId} {h2 : Nat} {ad2 : Nat → Nat} {cs2 : Nat → ClassId} {F M : Nat → Nat → Int32} (K : zok Z "SpecLoadSchedLaw" cL_law 4 (tyX cs1 ++ tyM cs2) 8 278) (S : zscr Z b L xs) (hL : L ≤ 256) (hi : i + 4 ≤ L) (hI : zI F M) (cont : ∀ F1 M1, zI F1 M1 → zG Z (w2 h1 ad1 cs1 h2 ad2 cs2) 558 [(3, .int (nI i)), (2, .ref h2), (1, .ref h1), (0, .ref b)] [] (F1, M1)) : zG Z (w2 h1 ad1 cs1 h2 ad2 cs2) 353 [(3, .int (nI i)), (2, .ref h2), (1, .ref h1), (0, .ref b)] [] (F, M) := by
  obtain ⟨n, hinv⟩ := hI
  obtain ⟨i0, i1, i14, iw, i6, i7, i8, i9, ir⟩ := id hinv
  refine z_aload_n 353 354 K 2 dL_law_353 rfl rfl rfl ?_
  refine z2_callv (ci := 0) (q := (RX0, TX0, 23)) 354 357 0 [] (wM h2 ad2 cs2 M ++ []) (fun F2 => (F2, M)) K (m_clear (zl Z) (zD Z) h1 ad1 cs1 F) (law_Kx K) rfl (fun _ => rfl) (lw_V q146 q147 q148 q28 q149) (by decide +kernel) ⟨by decide, by decide⟩ rfl rfl rfl rfl (Nat.le_of_ble_eq_true rfl) dL_law_354 rfl (fun F1 hx => ?_)
  refine z_aload_n 357 358 K 1 dL_law_357 rfl rfl rfl ?_
  refine z2_callv (ci := 1) (q := (RX1, TX1, 9)) 358 361 0 (wX h1 ad1 cs1 F1) [] (fun M2 => (F1, M2)) K (n_clear (zl Z) (zD Z) h2 ad2 cs2 M) (law_Km K) rfl (fun _ => rfl) (lw_V q337 q338 q339 q29 q340) (by decide +kernel) ⟨by decide, by decide⟩ rfl rfl rfl rfl (Nat.le_of_ble_eq_true rfl) dL_law_358 rfl (fun M1 hm => ?_)
  refine z_goto 361 558 K dL_law_361 (by decide) ?_
  exact cont F1 M1 (zI_clear hinv hx hm)

set_option maxHeartbeats 4000000 in
set_option maxRecDepth 100000 in
theorem law_c8 {Z : zz_T} {b L i : Nat} {xs : Nat → Int32} {h1 : Nat} {ad1 : Nat → Nat} {cs1 : Nat → ClassId} {h2 : Nat} {ad2 : Nat → Nat} {cs2 : Nat → ClassId} {F M : Nat → Nat → Int32} (K : zok Z "SpecLoadSchedLaw" cL_law 4 (tyX cs1 ++ tyM cs2) 8 278) (S : zscr Z b L xs) (hL : L ≤ 256) (hi : i + 4 ≤ L) (hI : zI F M) (cont : ∀ F1 M1, zI F1 M1 → zG Z (w2 h1 ad1 cs1 h2 ad2 cs2) 558 [(3, .int (nI i)), (2, .ref h2), (1, .ref h1), (0, .ref b)] [] (F1, M1)) : zG Z (w2 h1 ad1 cs1 h2 ad2 cs2) 364 [(3, .int (nI i)), (2, .ref h2), (1, .ref h1), (0, .ref b)] [] (F, M) := by
  obtain ⟨n, hinv⟩ := hI
  obtain ⟨i0, i1, i14, iw, i6, i7, i8, i9, ir⟩ := id hinv
  refine z_aload_n 364 365 K 2 dL_law_364 rfl rfl rfl ?_
  refine z_aload_n 365 366 K 3 dL_law_365 rfl rfl rfl ?_
  refine z_iload_n 366 367 K 0 dL_law_366 rfl rfl rfl ?_
  refine z_iconst 367 368 K (nI 1) dL_law_367 rfl (by decide) ?_
  refine z_iadd 368 369 K dL_law_368 rfl ?_
  refine z_top 369 (nI (i + 1)) (nI_add _ _) ?_
  refine z2_sld 369 370 K S (i + 1) rfl (by omega) (by omega) dL_law_369 rfl ?_
  refine z_aload_n 370 371 K 3 dL_law_370 rfl rfl rfl ?_
  refine z_iload_n 371 372 K 0 dL_law_371 rfl rfl rfl ?_
  refine z_iconst 372 373 K (nI 2) dL_law_372 rfl (by decide) ?_
  refine z_iadd 373 374 K dL_law_373 rfl ?_
  refine z_top 374 (nI (i + 2)) (nI_add _ _) ?_
  refine z2_sld 374 375 K S (i + 2) rfl (by omega) (by omega) dL_law_374 rfl ?_
  refine z2_calli (ci := 0) (q := (RX0, TX0, 23)) 375 378 2 [] (wM h2 ad2 cs2 M ++ []) (fun F2 => (F2, M)) K (m_setRegister (zl Z) (zD Z) h1 ad1 cs1 F (xs (i + 1)) (xs (i + 2))) (law_Kx K) rfl (fun _ => rfl) (lw_V q150 q151 q152 q28 q153) (by decide +kernel) ⟨by decide, by decide⟩ rfl rfl rfl rfl (Nat.le_of_ble_eq_true rfl) dL_law_375 rfl (fun r1 F1 hx => ?_)
  refine z_aload_n 378 379 K 1 dL_law_378 rfl rfl rfl ?_
  refine z_aload_n 379 380 K 3 dL_law_379 rfl rfl rfl ?_
  refine z_iload_n 380 381 K 0 dL_law_380 rfl rfl rfl ?_
  refine z_iconst 381 382 K (nI 1) dL_law_381 rfl (by decide) ?_
  refine z_iadd 382 383 K dL_law_382 rfl ?_
  refine z_top 383 (nI (i + 1)) (nI_add _ _) ?_
  refine z2_sld 383 384 K S (i + 1) rfl (by omega) (by omega) dL_law_383 rfl ?_
  refine z_aload_n 384 385 K 3 dL_law_384 rfl rfl rfl ?_
  refine z_iload_n 385 386 K 0 dL_law_385 rfl rfl rfl ?_
  refine z_iconst 386 387 K (nI 2) dL_law_386 rfl (by decide) ?_
  refine z_iadd 387 388 K dL_law_387 rfl ?_
  refine z_top 388 (nI (i + 2)) (nI_add _ _) ?_
  refine z2_sld 388 389 K S (i + 2) rfl (by omega) (by omega) dL_law_388 rfl ?_
  refine z2_calli (ci := 1) (q := (RX1, TX1, 9)) 389 392 2 (wX h1 ad1 cs1 F1) [] (fun M2 => (F1, M2)) K (n_setRegister (zl Z) (zD Z) h2 ad2 cs2 M (xs (i + 1)) (xs (i + 2))) (law_Km K) rfl (fun _ => rfl) (lw_V q341 q342 q343 q29 q344) (by decide +kernel) ⟨by decide, by decide⟩ rfl rfl rfl rfl (Nat.le_of_ble_eq_true rfl) dL_law_389 rfl (fun r2 M1 hm => ?_)
  have hz := zI_setR hinv hx hm
  refine z_icmp_eq 392 395 558 K dL_law_392 rfl (by decide) (fun c => ?_) (fun c => ?_)
  · exact cont F1 M1 hz.2
  · exact absurd hz.1 c

set_option maxHeartbeats 4000000 in
set_option maxRecDepth 100000 in
theorem law_c9 {Z : zz_T} {b L i : Nat} {xs : Nat → Int32} {h1 : Nat} {ad1 : Nat → Nat} {cs1 : Nat → ClassId} {h2 : Nat} {ad2 : Nat → Nat} {cs2 : Nat → ClassId} {F M : Nat → Nat → Int32} (K : zok Z "SpecLoadSchedLaw" cL_law 4 (tyX cs1 ++ tyM cs2) 8 278) (S : zscr Z b L xs) (hL : L ≤ 256) (hi : i + 4 ≤ L) (hI : zI F M) (cont : ∀ F1 M1, zI F1 M1 → zG Z (w2 h1 ad1 cs1 h2 ad2 cs2) 558 [(3, .int (nI i)), (2, .ref h2), (1, .ref h1), (0, .ref b)] [] (F1, M1)) : zG Z (w2 h1 ad1 cs1 h2 ad2 cs2) 397 [(3, .int (nI i)), (2, .ref h2), (1, .ref h1), (0, .ref b)] [] (F, M) := by
  obtain ⟨n, hinv⟩ := hI
  obtain ⟨i0, i1, i14, iw, i6, i7, i8, i9, ir⟩ := id hinv
  refine z_aload_n 397 398 K 2 dL_law_397 rfl rfl rfl ?_
  refine z_aload_n 398 399 K 3 dL_law_398 rfl rfl rfl ?_
  refine z_iload_n 399 400 K 0 dL_law_399 rfl rfl rfl ?_
  refine z_iconst 400 401 K (nI 1) dL_law_400 rfl (by decide) ?_
  refine z_iadd 401 402 K dL_law_401 rfl ?_
  refine z_top 402 (nI (i + 1)) (nI_add _ _) ?_
  refine z2_sld 402 403 K S (i + 1) rfl (by omega) (by omega) dL_law_402 rfl ?_
  refine z2_calli (ci := 0) (q := (RX0, TX0, 23)) 403 406 1 [] (wM h2 ad2 cs2 M ++ []) (fun F2 => (F2, M)) K (m_register (zl Z) (zD Z) h1 ad1 cs1 F (xs (i + 1))) (law_Kx K) rfl (fun _ => rfl) (lw_V q154 q155 q156 q28 q157) (by decide +kernel) ⟨by decide, by decide⟩ rfl rfl rfl rfl (Nat.le_of_ble_eq_true rfl) dL_law_403 rfl (fun r1 F1 hx => ?_)
  refine z_aload_n 406 407 K 1 dL_law_406 rfl rfl rfl ?_
  refine z_aload_n 407 408 K 3 dL_law_407 rfl rfl rfl ?_
  refine z_iload_n 408 409 K 0 dL_law_408 rfl rfl rfl ?_
  refine z_iconst 409 410 K (nI 1) dL_law_409 rfl (by decide) ?_
  refine z_iadd 410 411 K dL_law_410 rfl ?_
  refine z_top 411 (nI (i + 1)) (nI_add _ _) ?_
  refine z2_sld 411 412 K S (i + 1) rfl (by omega) (by omega) dL_law_411 rfl ?_
  refine z2_calli (ci := 1) (q := (RX1, TX1, 9)) 412 415 1 (wX h1 ad1 cs1 F1) [] (fun M2 => (F1, M2)) K (n_register (zl Z) (zD Z) h2 ad2 cs2 M (xs (i + 1))) (law_Km K) rfl (fun _ => rfl) (lw_V q345 q346 q347 q29 q348) (by decide +kernel) ⟨by decide, by decide⟩ rfl rfl rfl rfl (Nat.le_of_ble_eq_true rfl) dL_law_412 rfl (fun r2 M1 hm => ?_)
  have hz := zI_get hinv i6 hx hm
  refine z_icmp_eq 415 418 558 K dL_law_415 rfl (by decide) (fun c => ?_) (fun c => ?_)
  · exact cont F1 M1 hz.2
  · exact absurd hz.1 c

set_option maxHeartbeats 4000000 in
set_option maxRecDepth 100000 in
theorem law_c10 {Z : zz_T} {b L i : Nat} {xs : Nat → Int32} {h1 : Nat} {ad1 : Nat → Nat} {cs1 : Nat → ClassId} {h2 : Nat} {ad2 : Nat → Nat} {cs2 : Nat → ClassId} {F M : Nat → Nat → Int32} (K : zok Z "SpecLoadSchedLaw" cL_law 4 (tyX cs1 ++ tyM cs2) 8 278) (S : zscr Z b L xs) (hL : L ≤ 256) (hi : i + 4 ≤ L) (hI : zI F M) (cont : ∀ F1 M1, zI F1 M1 → zG Z (w2 h1 ad1 cs1 h2 ad2 cs2) 558 [(3, .int (nI i)), (2, .ref h2), (1, .ref h1), (0, .ref b)] [] (F1, M1)) : zG Z (w2 h1 ad1 cs1 h2 ad2 cs2) 420 [(3, .int (nI i)), (2, .ref h2), (1, .ref h1), (0, .ref b)] [] (F, M) := by
  obtain ⟨n, hinv⟩ := hI
  obtain ⟨i0, i1, i14, iw, i6, i7, i8, i9, ir⟩ := id hinv
  refine z_aload_n 420 421 K 2 dL_law_420 rfl rfl rfl ?_
  refine z_aload_n 421 422 K 3 dL_law_421 rfl rfl rfl ?_
  refine z_iload_n 422 423 K 0 dL_law_422 rfl rfl rfl ?_
  refine z_iconst 423 424 K (nI 1) dL_law_423 rfl (by decide) ?_
  refine z_iadd 424 425 K dL_law_424 rfl ?_
  refine z_top 425 (nI (i + 1)) (nI_add _ _) ?_
  refine z2_sld 425 426 K S (i + 1) rfl (by omega) (by omega) dL_law_425 rfl ?_
  refine z_aload_n 426 427 K 3 dL_law_426 rfl rfl rfl ?_
  refine z_iload_n 427 428 K 0 dL_law_427 rfl rfl rfl ?_
  refine z_iconst 428 429 K (nI 2) dL_law_428 rfl (by decide) ?_
  refine z_iadd 429 430 K dL_law_429 rfl ?_
  refine z_top 430 (nI (i + 2)) (nI_add _ _) ?_
  refine z2_sld 430 431 K S (i + 2) rfl (by omega) (by omega) dL_law_430 rfl ?_
  refine z2_calli (ci := 0) (q := (RX0, TX0, 23)) 431 434 2 [] (wM h2 ad2 cs2 M ++ []) (fun F2 => (F2, M)) K (m_setWord (zl Z) (zD Z) h1 ad1 cs1 F (xs (i + 1)) (xs (i + 2))) (law_Kx K) rfl (fun _ => rfl) (lw_V q158 q159 q160 q28 q161) (by decide +kernel) ⟨by decide, by decide⟩ rfl rfl rfl rfl (Nat.le_of_ble_eq_true rfl) dL_law_431 rfl (fun r1 F1 hx => ?_)
  refine z_aload_n 434 435 K 1 dL_law_434 rfl rfl rfl ?_
  refine z_aload_n 435 436 K 3 dL_law_435 rfl rfl rfl ?_
  refine z_iload_n 436 437 K 0 dL_law_436 rfl rfl rfl ?_
  refine z_iconst 437 438 K (nI 1) dL_law_437 rfl (by decide) ?_
  refine z_iadd 438 439 K dL_law_438 rfl ?_
  refine z_top 439 (nI (i + 1)) (nI_add _ _) ?_
  refine z2_sld 439 440 K S (i + 1) rfl (by omega) (by omega) dL_law_439 rfl ?_
  refine z_aload_n 440 441 K 3 dL_law_440 rfl rfl rfl ?_
  refine z_iload_n 441 442 K 0 dL_law_441 rfl rfl rfl ?_
  refine z_iconst 442 443 K (nI 2) dL_law_442 rfl (by decide) ?_
  refine z_iadd 443 444 K dL_law_443 rfl ?_
  refine z_top 444 (nI (i + 2)) (nI_add _ _) ?_
  refine z2_sld 444 445 K S (i + 2) rfl (by omega) (by omega) dL_law_444 rfl ?_
  refine z2_calli (ci := 1) (q := (RX1, TX1, 9)) 445 448 2 (wX h1 ad1 cs1 F1) [] (fun M2 => (F1, M2)) K (n_setWord (zl Z) (zD Z) h2 ad2 cs2 M (xs (i + 1)) (xs (i + 2))) (law_Km K) rfl (fun _ => rfl) (lw_V q349 q350 q351 q29 q352) (by decide +kernel) ⟨by decide, by decide⟩ rfl rfl rfl rfl (Nat.le_of_ble_eq_true rfl) dL_law_445 rfl (fun r2 M1 hm => ?_)
  have hz := zI_setW hinv hx hm
  refine z_icmp_eq 448 451 558 K dL_law_448 rfl (by decide) (fun c => ?_) (fun c => ?_)
  · exact cont F1 M1 hz.2
  · exact absurd hz.1 c

set_option maxHeartbeats 4000000 in
set_option maxRecDepth 100000 in
theorem law_c11 {Z : zz_T} {b L i : Nat} {xs : Nat → Int32} {h1 : Nat} {ad1 : Nat → Nat} {cs1 : Nat → ClassId} {h2 : Nat} {ad2 : Nat → Nat} {cs2 : Nat → ClassId} {F M : Nat → Nat → Int32} (K : zok Z "SpecLoadSchedLaw" cL_law 4 (tyX cs1 ++ tyM cs2) 8 278) (S : zscr Z b L xs) (hL : L ≤ 256) (hi : i + 4 ≤ L) (hI : zI F M) (cont : ∀ F1 M1, zI F1 M1 → zG Z (w2 h1 ad1 cs1 h2 ad2 cs2) 558 [(3, .int (nI i)), (2, .ref h2), (1, .ref h1), (0, .ref b)] [] (F1, M1)) : zG Z (w2 h1 ad1 cs1 h2 ad2 cs2) 453 [(3, .int (nI i)), (2, .ref h2), (1, .ref h1), (0, .ref b)] [] (F, M) := by
  obtain ⟨n, hinv⟩ := hI
  obtain ⟨i0, i1, i14, iw, i6, i7, i8, i9, ir⟩ := id hinv
  refine z_aload_n 453 454 K 2 dL_law_453 rfl rfl rfl ?_
  refine z_aload_n 454 455 K 3 dL_law_454 rfl rfl rfl ?_
  refine z_iload_n 455 456 K 0 dL_law_455 rfl rfl rfl ?_
  refine z_iconst 456 457 K (nI 1) dL_law_456 rfl (by decide) ?_
  refine z_iadd 457 458 K dL_law_457 rfl ?_
  refine z_top 458 (nI (i + 1)) (nI_add _ _) ?_
  refine z2_sld 458 459 K S (i + 1) rfl (by omega) (by omega) dL_law_458 rfl ?_
  refine z2_calli (ci := 0) (q := (RX0, TX0, 23)) 459 462 1 [] (wM h2 ad2 cs2 M ++ []) (fun F2 => (F2, M)) K (m_word (zl Z) (zD Z) h1 ad1 cs1 F (xs (i + 1))) (law_Kx K) rfl (fun _ => rfl) (lw_V q166 q167 q168 q28 q169) (by decide +kernel) ⟨by decide, by decide⟩ rfl rfl rfl rfl (Nat.le_of_ble_eq_true rfl) dL_law_459 rfl (fun r1 F1 hx => ?_)
  refine z_aload_n 462 463 K 1 dL_law_462 rfl rfl rfl ?_
  refine z_aload_n 463 464 K 3 dL_law_463 rfl rfl rfl ?_
  refine z_iload_n 464 465 K 0 dL_law_464 rfl rfl rfl ?_
  refine z_iconst 465 466 K (nI 1) dL_law_465 rfl (by decide) ?_
  refine z_iadd 466 467 K dL_law_466 rfl ?_
  refine z_top 467 (nI (i + 1)) (nI_add _ _) ?_
  refine z2_sld 467 468 K S (i + 1) rfl (by omega) (by omega) dL_law_467 rfl ?_
  refine z2_calli (ci := 1) (q := (RX1, TX1, 9)) 468 471 1 (wX h1 ad1 cs1 F1) [] (fun M2 => (F1, M2)) K (n_word (zl Z) (zD Z) h2 ad2 cs2 M (xs (i + 1))) (law_Km K) rfl (fun _ => rfl) (lw_V q357 q358 q359 q29 q360) (by decide +kernel) ⟨by decide, by decide⟩ rfl rfl rfl rfl (Nat.le_of_ble_eq_true rfl) dL_law_468 rfl (fun r2 M1 hm => ?_)
  have hz := zI_get hinv i7 hx hm
  refine z_icmp_eq 471 474 558 K dL_law_471 rfl (by decide) (fun c => ?_) (fun c => ?_)
  · exact cont F1 M1 hz.2
  · exact absurd hz.1 c

set_option maxHeartbeats 4000000 in
set_option maxRecDepth 100000 in
theorem law_c12 {Z : zz_T} {b L i : Nat} {xs : Nat → Int32} {h1 : Nat} {ad1 : Nat → Nat} {cs1 : Nat → ClassId} {h2 : Nat} {ad2 : Nat → Nat} {cs2 : Nat → ClassId} {F M : Nat → Nat → Int32} (K : zok Z "SpecLoadSchedLaw" cL_law 4 (tyX cs1 ++ tyM cs2) 8 278) (S : zscr Z b L xs) (hL : L ≤ 256) (hi : i + 4 ≤ L) (hI : zI F M) (cont : ∀ F1 M1, zI F1 M1 → zG Z (w2 h1 ad1 cs1 h2 ad2 cs2) 558 [(3, .int (nI i)), (2, .ref h2), (1, .ref h1), (0, .ref b)] [] (F1, M1)) : zG Z (w2 h1 ad1 cs1 h2 ad2 cs2) 476 [(3, .int (nI i)), (2, .ref h2), (1, .ref h1), (0, .ref b)] [] (F, M) := by
  obtain ⟨n, hinv⟩ := hI
  obtain ⟨i0, i1, i14, iw, i6, i7, i8, i9, ir⟩ := id hinv
  refine z_aload_n 476 477 K 2 dL_law_476 rfl rfl rfl ?_
  refine z_aload_n 477 478 K 3 dL_law_477 rfl rfl rfl ?_
  refine z_iload_n 478 479 K 0 dL_law_478 rfl rfl rfl ?_
  refine z_iconst 479 480 K (nI 1) dL_law_479 rfl (by decide) ?_
  refine z_iadd 480 481 K dL_law_480 rfl ?_
  refine z_top 481 (nI (i + 1)) (nI_add _ _) ?_
  refine z2_sld 481 482 K S (i + 1) rfl (by omega) (by omega) dL_law_481 rfl ?_
  refine z_aload_n 482 483 K 3 dL_law_482 rfl rfl rfl ?_
  refine z_iload_n 483 484 K 0 dL_law_483 rfl rfl rfl ?_
  refine z_iconst 484 485 K (nI 2) dL_law_484 rfl (by decide) ?_
  refine z_iadd 485 486 K dL_law_485 rfl ?_
  refine z_top 486 (nI (i + 2)) (nI_add _ _) ?_
  refine z2_sld 486 487 K S (i + 2) rfl (by omega) (by omega) dL_law_486 rfl ?_
  refine z2_calli (ci := 0) (q := (RX0, TX0, 23)) 487 490 2 [] (wM h2 ad2 cs2 M ++ []) (fun F2 => (F2, M)) K (m_bar (zl Z) (zD Z) h1 ad1 cs1 F (xs (i + 1)) (xs (i + 2))) (law_Kx K) rfl (fun _ => rfl) (lw_V q170 q171 q172 q28 q173) (by decide +kernel) ⟨by decide, by decide⟩ rfl rfl rfl rfl (Nat.le_of_ble_eq_true rfl) dL_law_487 rfl (fun r1 F1 hx => ?_)
  refine z_aload_n 490 491 K 1 dL_law_490 rfl rfl rfl ?_
  refine z_aload_n 491 492 K 3 dL_law_491 rfl rfl rfl ?_
  refine z_iload_n 492 493 K 0 dL_law_492 rfl rfl rfl ?_
  refine z_iconst 493 494 K (nI 1) dL_law_493 rfl (by decide) ?_
  refine z_iadd 494 495 K dL_law_494 rfl ?_
  refine z_top 495 (nI (i + 1)) (nI_add _ _) ?_
  refine z2_sld 495 496 K S (i + 1) rfl (by omega) (by omega) dL_law_495 rfl ?_
  refine z_aload_n 496 497 K 3 dL_law_496 rfl rfl rfl ?_
  refine z_iload_n 497 498 K 0 dL_law_497 rfl rfl rfl ?_
  refine z_iconst 498 499 K (nI 2) dL_law_498 rfl (by decide) ?_
  refine z_iadd 499 500 K dL_law_499 rfl ?_
  refine z_top 500 (nI (i + 2)) (nI_add _ _) ?_
  refine z2_sld 500 501 K S (i + 2) rfl (by omega) (by omega) dL_law_500 rfl ?_
  refine z2_calli (ci := 1) (q := (RX1, TX1, 9)) 501 504 2 (wX h1 ad1 cs1 F1) [] (fun M2 => (F1, M2)) K (n_bar (zl Z) (zD Z) h2 ad2 cs2 M (xs (i + 1)) (xs (i + 2))) (law_Km K) rfl (fun _ => rfl) (lw_V q361 q362 q363 q29 q364) (by decide +kernel) ⟨by decide, by decide⟩ rfl rfl rfl rfl (Nat.le_of_ble_eq_true rfl) dL_law_501 rfl (fun r2 M1 hm => ?_)
  have hz := zI_bar hinv hx hm
  refine z_icmp_eq 504 507 558 K dL_law_504 rfl (by decide) (fun c => ?_) (fun c => ?_)
  · exact cont F1 M1 hz.2
  · exact absurd hz.1 c

set_option maxHeartbeats 4000000 in
set_option maxRecDepth 100000 in
theorem law_c13 {Z : zz_T} {b L i : Nat} {xs : Nat → Int32} {h1 : Nat} {ad1 : Nat → Nat} {cs1 : Nat → ClassId} {h2 : Nat} {ad2 : Nat → Nat} {cs2 : Nat → ClassId} {F M : Nat → Nat → Int32} (K : zok Z "SpecLoadSchedLaw" cL_law 4 (tyX cs1 ++ tyM cs2) 8 278) (S : zscr Z b L xs) (hL : L ≤ 256) (hi : i + 4 ≤ L) (hI : zI F M) (cont : ∀ F1 M1, zI F1 M1 → zG Z (w2 h1 ad1 cs1 h2 ad2 cs2) 558 [(3, .int (nI i)), (2, .ref h2), (1, .ref h1), (0, .ref b)] [] (F1, M1)) : zG Z (w2 h1 ad1 cs1 h2 ad2 cs2) 509 [(3, .int (nI i)), (2, .ref h2), (1, .ref h1), (0, .ref b)] [] (F, M) := by
  obtain ⟨n, hinv⟩ := hI
  obtain ⟨i0, i1, i14, iw, i6, i7, i8, i9, ir⟩ := id hinv
  refine z_aload_n 509 510 K 2 dL_law_509 rfl rfl rfl ?_
  refine z2_calli (ci := 0) (q := (RX0, TX0, 23)) 510 513 0 [] (wM h2 ad2 cs2 M ++ []) (fun F2 => (F2, M)) K (m_run (zl Z) (zD Z) h1 ad1 cs1 F n i0 i14 (fun t ht => (iw t ht).1) ir) (law_Kx K) rfl (fun _ => rfl) (lw_V q174 q175 q176 q28 q177) (by decide +kernel) ⟨by decide, by decide⟩ rfl rfl rfl rfl (Nat.le_of_ble_eq_true rfl) dL_law_510 rfl (fun r1 F1 hx => ?_)
  refine z_aload_n 513 514 K 1 dL_law_513 rfl rfl rfl ?_
  refine z2_calli (ci := 1) (q := (RX1, TX1, 9)) 514 517 0 (wX h1 ad1 cs1 F1) [] (fun M2 => (F1, M2)) K (n_run (zl Z) (zD Z) h2 ad2 cs2 M F n i1 i14 (fun t ht => (iw t ht).1) (fun t ht => (iw t ht).2) i8.symm) (law_Km K) rfl (fun _ => rfl) (lw_V q365 q366 q367 q29 q368) (by decide +kernel) ⟨by decide, by decide⟩ rfl rfl rfl rfl (Nat.le_of_ble_eq_true rfl) dL_law_514 rfl (fun r2 M1 hm => ?_)
  have hz := zI_run hinv hx hm
  refine z_icmp_eq 517 520 558 K dL_law_517 rfl (by decide) (fun c => ?_) (fun c => ?_)
  · exact cont F1 M1 hz.2
  · exact absurd hz.1 c

set_option maxHeartbeats 4000000 in
set_option maxRecDepth 100000 in
theorem law_c14 {Z : zz_T} {b L i : Nat} {xs : Nat → Int32} {h1 : Nat} {ad1 : Nat → Nat} {cs1 : Nat → ClassId} {h2 : Nat} {ad2 : Nat → Nat} {cs2 : Nat → ClassId} {F M : Nat → Nat → Int32} (K : zok Z "SpecLoadSchedLaw" cL_law 4 (tyX cs1 ++ tyM cs2) 8 278) (S : zscr Z b L xs) (hL : L ≤ 256) (hi : i + 4 ≤ L) (hI : zI F M) (cont : ∀ F1 M1, zI F1 M1 → zG Z (w2 h1 ad1 cs1 h2 ad2 cs2) 558 [(3, .int (nI i)), (2, .ref h2), (1, .ref h1), (0, .ref b)] [] (F1, M1)) : zG Z (w2 h1 ad1 cs1 h2 ad2 cs2) 522 [(3, .int (nI i)), (2, .ref h2), (1, .ref h1), (0, .ref b)] [] (F, M) := by
  obtain ⟨n, hinv⟩ := hI
  obtain ⟨i0, i1, i14, iw, i6, i7, i8, i9, ir⟩ := id hinv
  refine z_aload_n 522 523 K 2 dL_law_522 rfl rfl rfl ?_
  refine z2_calli (ci := 0) (q := (RX0, TX0, 23)) 523 526 0 [] (wM h2 ad2 cs2 M ++ []) (fun F2 => (F2, M)) K (m_last (zl Z) (zD Z) h1 ad1 cs1 F) (law_Kx K) rfl (fun _ => rfl) (lw_V q258 q259 q260 q28 q261) (by decide +kernel) ⟨by decide, by decide⟩ rfl rfl rfl rfl (Nat.le_of_ble_eq_true rfl) dL_law_523 rfl (fun r1 F1 hx => ?_)
  refine z_aload_n 526 527 K 1 dL_law_526 rfl rfl rfl ?_
  refine z2_calli (ci := 1) (q := (RX1, TX1, 9)) 527 530 0 (wX h1 ad1 cs1 F1) [] (fun M2 => (F1, M2)) K (n_last (zl Z) (zD Z) h2 ad2 cs2 M) (law_Km K) rfl (fun _ => rfl) (lw_V q373 q374 q375 q29 q376) (by decide +kernel) ⟨by decide, by decide⟩ rfl rfl rfl rfl (Nat.le_of_ble_eq_true rfl) dL_law_527 rfl (fun r2 M1 hm => ?_)
  have hz := zI_same hinv i9 hx hm
  refine z_icmp_eq 530 533 558 K dL_law_530 rfl (by decide) (fun c => ?_) (fun c => ?_)
  · exact cont F1 M1 hz.2
  · exact absurd hz.1 c

set_option maxHeartbeats 4000000 in
set_option maxRecDepth 100000 in
theorem law_c15 {Z : zz_T} {b L i : Nat} {xs : Nat → Int32} {h1 : Nat} {ad1 : Nat → Nat} {cs1 : Nat → ClassId} {h2 : Nat} {ad2 : Nat → Nat} {cs2 : Nat → ClassId} {F M : Nat → Nat → Int32} (K : zok Z "SpecLoadSchedLaw" cL_law 4 (tyX cs1 ++ tyM cs2) 8 278) (S : zscr Z b L xs) (hL : L ≤ 256) (hi : i + 4 ≤ L) (hI : zI F M) (cont : ∀ F1 M1, zI F1 M1 → zG Z (w2 h1 ad1 cs1 h2 ad2 cs2) 558 [(3, .int (nI i)), (2, .ref h2), (1, .ref h1), (0, .ref b)] [] (F1, M1)) : zG Z (w2 h1 ad1 cs1 h2 ad2 cs2) 535 [(3, .int (nI i)), (2, .ref h2), (1, .ref h1), (0, .ref b)] [] (F, M) := by
  obtain ⟨n, hinv⟩ := hI
  obtain ⟨i0, i1, i14, iw, i6, i7, i8, i9, ir⟩ := id hinv
  refine z_aload_n 535 536 K 2 dL_law_535 rfl rfl rfl ?_
  refine z_aload_n 536 537 K 3 dL_law_536 rfl rfl rfl ?_
  refine z_iload_n 537 538 K 0 dL_law_537 rfl rfl rfl ?_
  refine z_iconst 538 539 K (nI 1) dL_law_538 rfl (by decide) ?_
  refine z_iadd 539 540 K dL_law_539 rfl ?_
  refine z_top 540 (nI (i + 1)) (nI_add _ _) ?_
  refine z2_sld 540 541 K S (i + 1) rfl (by omega) (by omega) dL_law_540 rfl ?_
  refine z2_calli (ci := 0) (q := (RX0, TX0, 23)) 541 544 1 [] (wM h2 ad2 cs2 M ++ []) (fun F2 => (F2, M)) K (m_repeat (zl Z) (zD Z) h1 ad1 cs1 F n i0 i14 (fun t ht => (iw t ht).1) ir (xs (i + 1))) (law_Kx K) rfl (fun _ => rfl) (lw_V q262 q263 q264 q28 q265) (by decide +kernel) ⟨by decide, by decide⟩ rfl rfl rfl rfl (Nat.le_of_ble_eq_true rfl) dL_law_541 rfl (fun r1 F1 hx => ?_)
  refine z_aload_n 544 545 K 1 dL_law_544 rfl rfl rfl ?_
  refine z_aload_n 545 546 K 3 dL_law_545 rfl rfl rfl ?_
  refine z_iload_n 546 547 K 0 dL_law_546 rfl rfl rfl ?_
  refine z_iconst 547 548 K (nI 1) dL_law_547 rfl (by decide) ?_
  refine z_iadd 548 549 K dL_law_548 rfl ?_
  refine z_top 549 (nI (i + 1)) (nI_add _ _) ?_
  refine z2_sld 549 550 K S (i + 1) rfl (by omega) (by omega) dL_law_549 rfl ?_
  refine z2_calli (ci := 1) (q := (RX1, TX1, 9)) 550 553 1 (wX h1 ad1 cs1 F1) [] (fun M2 => (F1, M2)) K (n_repeat (zl Z) (zD Z) h2 ad2 cs2 M F n i1 i14 (fun t ht => (iw t ht).1) (fun t ht => (iw t ht).2) i8.symm (xs (i + 1))) (law_Km K) rfl (fun _ => rfl) (lw_V q377 q378 q379 q29 q380) (by decide +kernel) ⟨by decide, by decide⟩ rfl rfl rfl rfl (Nat.le_of_ble_eq_true rfl) dL_law_550 rfl (fun r2 M1 hm => ?_)
  have hz := zI_rep hinv hx hm
  refine z_icmp_eq 553 556 558 K dL_law_553 rfl (by decide) (fun c => ?_) (fun c => ?_)
  · exact cont F1 M1 hz.2
  · exact absurd hz.1 c

set_option maxHeartbeats 4000000 in
set_option maxRecDepth 100000 in
theorem law_loop {Z : zz_T} {b L : Nat} {xs : Nat → Int32} {h1 : Nat} {ad1 : Nat → Nat} {cs1 : Nat → ClassId} {h2 : Nat} {ad2 : Nat → Nat} {cs2 : Nat → ClassId} (K : zok Z "SpecLoadSchedLaw" cL_law 4 (tyX cs1 ++ tyM cs2) 8 278) (S : zscr Z b L xs) (hL : L ≤ 256) (hend : ∀ lv U, zG Z (w2 h1 ad1 cs1 h2 ad2 cs2) 565 lv [.int 1] U) : ∀ (N i : Nat) (F M : Nat → Nat → Int32), i ≤ L → L < i + N → zI F M → zG Z (w2 h1 ad1 cs1 h2 ad2 cs2) 18 [(3, .int (nI i)), (2, .ref h2), (1, .ref h1), (0, .ref b)] [] (F, M) := by
  intro N
  induction N with
  | zero => intro i F M h1 h2; exact absurd h2 (by omega)
  | succ N ih =>
    intro i F M hi hN hI
    have cont : i + 4 ≤ L → ∀ F1 M1, zI F1 M1 → zG Z (w2 h1 ad1 cs1 h2 ad2 cs2) 558 [(3, .int (nI i)), (2, .ref h2), (1, .ref h1), (0, .ref b)] [] (F1, M1) := by
      intro h4 F1 M1 hI1
      refine z_iinc 558 561 K [(3, .int (nI (i + 4))), (2, .ref h2), (1, .ref h1), (0, .ref b)] 0 dL_law_558 rfl rfl (nI_add i 4) (by decide) rfl ?_
      refine z_goto 561 18 K dL_law_561 (by decide) ?_
      exact ih (i + 4) F1 M1 (by omega) (by omega) hI1
    refine z_iload_n 18 19 K 0 dL_law_18 rfl rfl rfl ?_
    refine z_aload_n 19 20 K 3 dL_law_19 rfl rfl rfl ?_
    refine z2_slen 20 21 K S dL_law_20 rfl ?_
    refine z_iconst 21 22 K 4 dL_law_21 rfl (by decide) ?_
    refine z_isub 22 23 K dL_law_22 rfl ?_
    refine z_icmp_gt 23 26 564 K dL_law_23 rfl (by decide) (fun c => ?_) (fun c => ?_)
    · refine z_iconst 564 565 K 1 dL_law_564 rfl (by decide) ?_
      exact hend _ _
    · have hi4 := zi4_le hL (by omega) c
      refine z_aload_n 26 27 K 3 dL_law_26 rfl rfl rfl ?_
      refine z_iload_n 27 28 K 0 dL_law_27 rfl rfl rfl ?_
      refine z2_sld 28 29 K S i rfl (by omega) (by omega) dL_law_28 rfl ?_
      refine z_bipush 29 31 K 15 dL_law_29 rfl (by decide) ?_
      refine z_iand 31 32 K dL_law_31 rfl ?_
      obtain ⟨j, hj, ej⟩ := pk_andE (xs i) (m := 15) 4 (by decide)
      refine z_top 32 (nI j) ej ?_
      have hc : j = 0 ∨ j = 1 ∨ j = 2 ∨ j = 3 ∨ j = 4 ∨ j = 5 ∨ j = 6 ∨ j = 7 ∨ j = 8 ∨ j = 9 ∨ j = 10 ∨ j = 11 ∨ j = 12 ∨ j = 13 ∨ j = 14 ∨ j = 15 := by omega
      rcases hc with rfl | rfl | rfl | rfl | rfl | rfl | rfl | rfl | rfl | rfl | rfl | rfl | rfl | rfl | rfl | rfl
      · exact z2_table (off := 80) 32 112 K dL_law_32 (by decide) (by decide) (by decide) (by decide) (law_c0 K S hL hi4 hI (cont hi4))
      · exact z2_table (off := 113) 32 145 K dL_law_32 (by decide) (by decide) (by decide) (by decide) (law_c1 K S hL hi4 hI (cont hi4))
      · exact z2_table (off := 156) 32 188 K dL_law_32 (by decide) (by decide) (by decide) (by decide) (law_c2 K S hL hi4 hI (cont hi4))
      · exact z2_table (off := 199) 32 231 K dL_law_32 (by decide) (by decide) (by decide) (by decide) (law_c3 K S hL hi4 hI (cont hi4))
      · exact z2_table (off := 242) 32 274 K dL_law_32 (by decide) (by decide) (by decide) (by decide) (law_c4 K S hL hi4 hI (cont hi4))
      · exact z2_table (off := 285) 32 317 K dL_law_32 (by decide) (by decide) (by decide) (by decide) (law_c5 K S hL hi4 hI (cont hi4))
      · exact z2_table (off := 308) 32 340 K dL_law_32 (by decide) (by decide) (by decide) (by decide) (law_c6 K S hL hi4 hI (cont hi4))
      · exact z2_table (off := 321) 32 353 K dL_law_32 (by decide) (by decide) (by decide) (by decide) (law_c7 K S hL hi4 hI (cont hi4))
      · exact z2_table (off := 332) 32 364 K dL_law_32 (by decide) (by decide) (by decide) (by decide) (law_c8 K S hL hi4 hI (cont hi4))
      · exact z2_table (off := 365) 32 397 K dL_law_32 (by decide) (by decide) (by decide) (by decide) (law_c9 K S hL hi4 hI (cont hi4))
      · exact z2_table (off := 388) 32 420 K dL_law_32 (by decide) (by decide) (by decide) (by decide) (law_c10 K S hL hi4 hI (cont hi4))
      · exact z2_table (off := 421) 32 453 K dL_law_32 (by decide) (by decide) (by decide) (by decide) (law_c11 K S hL hi4 hI (cont hi4))
      · exact z2_table (off := 444) 32 476 K dL_law_32 (by decide) (by decide) (by decide) (by decide) (law_c12 K S hL hi4 hI (cont hi4))
      · exact z2_table (off := 477) 32 509 K dL_law_32 (by decide) (by decide) (by decide) (by decide) (law_c13 K S hL hi4 hI (cont hi4))
      · exact z2_table (off := 490) 32 522 K dL_law_32 (by decide) (by decide) (by decide) (by decide) (law_c14 K S hL hi4 hI (cont hi4))
      · exact z2_table (off := 503) 32 535 K dL_law_32 (by decide) (by decide) (by decide) (by decide) (law_c15 K S hL hi4 hI (cont hi4))
end
section
set_option maxRecDepth 100000
/-! THE CLAIM OUT OF ONE WALK OF THE LAW'S BODY. Your part is whole_start (and what it stands on); all else here is the same for every law, but numbers. -/
def R_law : String := "SpecLoadSchedLaw"
def lw_P (b : Addr) (xs : List Int32) (args : Array Value) (s : State) : Prop := args = #[.ref b] ∧ s.IntsAt b xs ∧ xs.length ≤ 256 ∧ (Jvm.Cond.and given_1 narrow_1).before args s = true
def lw_Q (_ : Array Value) (s : State) (o : Outcome) (t : State) : Prop := o = .returned (some (.int 1)) ∧ Framed s o t [] 600000 7290000
def lw_Z (below : List Frame) (a : Array Value) (s : State) : State → Prop := fun t => ∃ o, t.status = .running ∧ Ended t below o ∧ lw_Q a s o t
/-- the law's own end, with 1 on the stack, nothing written that was there before, its room as the claim has it -/
theorem lw_ret {p : Program} {l : Launch} {e : Env} {s : State} {m : MethodId} {below : List Frame} {meth : Method} {c : Code} {b : Nat} (hx : p.tables.exec = Jvm.exec) (hb : c.code = code) (hr : meth.sig.returnType = ret) (hlocks : meth.locks = false) {pc : Nat} {H : Heap} {ls : Array Slot} (hdg : decode code pc = .ok (.ireturn, 1)) : W p l e room_1 s m #[Value.ref b] below meth c H [] 600000 7290000 (lw_Z below #[Value.ref b] s) (F0 m pc ls [.int 1]) := by
  intro T hT X
  obtain ⟨fs, hret, hrun, hended, hW, hframe⟩ := X.leave (v := some (.int 1)) (hlocks := hlocks) (fun h => by rw [hr] at h; cases h)
  have hmeth' : T.vm.method? m = some meth := X.method'
  refine ⟨T.setFrames fs, ?_, .returned (some (.int 1)), hrun, hended, rfl, ⟨_, rfl⟩, hW, hframe⟩
  jvm_step X.here [X.here.top, hx, hb, hdg, hmeth', hr, ret, narrow_b1]
  (try refine ⟨rfl, ?_⟩); (try refine ⟨rfl, ?_⟩)
  first | (intro acts; rw [hret _ acts rfl rfl rfl]) | rw [hret _ _ rfl rfl rfl]
  exact Steps.refl _
/-- what holds at the law's entry: the machine, the code, the tables' words (any of lw_tbl by 'hts w (by decide +kernel)'), the script of L ints xs at the cell b, what the Statement gives of the start (any of its parts by flat_of_before) -/
def lw_At (p : Program) (s : State) (m : MethodId) (meth : Method) (c : Code) (b L : Nat) (xs : Nat → Int32) : Prop :=
  p.tables.exec = Jvm.exec ∧ c.code = code ∧ meth.sig.returnType = ret ∧ c.maxLocals = 4 ∧ s.vm.findClass R_law = some m.cls ∧ (∀ w ∈ lw_tbl, w.before #[Value.ref b] s = true) ∧ va_X b L xs s s.heap ∧ b < s.heap.size ∧ meth.locks = false ∧ (Jvm.Cond.and given_1 narrow_1).before #[Value.ref b] s = true
end
section
set_option maxRecDepth 100000
set_option maxHeartbeats 4000000 in
/-- the law's walk: two objects are made, then its loop -/
theorem whole_start {p : Program} {e : Env} {s : State} {m : MethodId} {below : List Frame} {meth : Method} {c : Code} (l : Launch) {b L : Nat} {xs : Nat → Int32} (hL : L ≤ 256) (C0 : lw_At p s m meth c b L xs) : W p l e room_1 s m #[Value.ref b] below meth c s.heap [] 0 0 (lw_Z below #[Value.ref b] s) (entryFrame m ([Value.ref b] : List Value).toArray 4) := by
  obtain ⟨hx, hb, hr, hml, hown, hts0, hX, hbl, hlocks, -⟩ := C0
  have hts : ∀ w ∈ lw_all, w.before #[Value.ref b] s = true := fun w h => hts0 w (lw_all_tbl h)
  obtain ⟨c0_, iS0, hKn0⟩ := u_known (C := RX0) (T := TX0) (N := 23) (n := 23) hts0 (fun w h => lw_all_tbl (in_X0 w h)) (hts0 _ (lw_all_tbl q31))
  obtain ⟨c1_, iS1, hKn1⟩ := u_known (C := RX1) (T := TX1) (N := 9) (n := 9) hts0 (fun w h => lw_all_tbl (in_X1 w h)) (hts0 _ (lw_all_tbl q268))
  obtain ⟨D, hKD⟩ : ∃ D : va_G, ∀ (k : Nat) (q : vw_C), vwCl[k]? = some q → u_Kn s q.1 q.2.1 q.2.2 (D.1 k) (D.2 k) := by
    refine ⟨(fun k => if k = 0 then c0_ else c1_, fun k => if k = 0 then iS0 else iS1), ?_⟩
    intro k q hq
    match k, hq with
    | 0, hq => cases hq; exact hKn0
    | 1, hq => cases hq; exact hKn1
    | k + 2, hq => simp [vwCl] at hq
  have hK : va_K D vwCl [] s := ⟨hKD, fun k q h => by simp at h⟩
  have hP : va_P D vwCl [] s.heap := fun k q h => by simp at h
  have hD : va_D (fun q => s.heap.size ≤ q) [] := ⟨fun i j p q h => by simp at h, fun k q h => by simp at h⟩
  have hS : va_S (fun q => s.heap.size ≤ q) s.heap s.heap [] := va_S.rf
  have hA : ∀ q : Nat, s.heap.size ≤ q → (fun q => s.heap.size ≤ q) q := fun q h => h
  have hl := lv_entry ([.ref b]) (n := 4) (Nat.le_of_ble_eq_true rfl)
  rw [lg_entry_eq]
  generalize (lg_sl ([.ref b]) ++ List.replicate (4 - (lg_sl ([.ref b])).length) Slot.unset).toArray = ls at hl ⊢
  have hl : lv_has ls 4 [(0, .ref b)] := hl
  refine va_new (ci := 0) (fs := [.int 0, .null, .null, .null, .null, .null, .null, .null, .null, .int 0, .int 0, .null, .null, .null, .null, .int 0, .null, .null, .null, .null, .int 0, .null, .null]) (C := RX0) (T := TX0) (N := 23) hx hb hts in_X0 tyX0 tyX0_ok hown (hts _ q30) (hts _ q31) (hts _ q28) hK hP hD hS hA rfl (fun j hj => by rcases (show j = 0 ∨ j = 1 ∨ j = 2 ∨ j = 3 ∨ j = 4 ∨ j = 5 ∨ j = 6 ∨ j = 7 ∨ j = 8 ∨ j = 9 ∨ j = 10 ∨ j = 11 ∨ j = 12 ∨ j = 13 ∨ j = 14 ∨ j = 15 ∨ j = 16 ∨ j = 17 ∨ j = 18 ∨ j = 19 ∨ j = 20 ∨ j = 21 ∨ j = 22 by omega) with rfl | rfl | rfl | rfl | rfl | rfl | rfl | rfl | rfl | rfl | rfl | rfl | rfl | rfl | rfl | rfl | rfl | rfl | rfl | rfl | rfl | rfl | rfl <;> rfl) (Nat.le_of_ble_eq_true rfl) (Nat.le_of_ble_eq_true rfl) dL_law_0 (fun h1 H hP hD hS => ?_)
  have hP : va_P D vwCl [(h1, .inr (0, [.int 0, .null, .null, .null, .null, .null, .null, .null, .null, .int 0, .int 0, .null, .null, .null, .null, .int 0, .null, .null, .null, .null, .int 0, .null, .null]))] H := hP
  have hD : va_D (fun q => s.heap.size ≤ q) [(h1, .inr (0, [.int 0, .null, .null, .null, .null, .null, .null, .null, .null, .int 0, .int 0, .null, .null, .null, .null, .int 0, .null, .null, .null, .null, .int 0, .null, .null]))] := hD
  refine W.widen (k := 1) (n := 23) (Nat.le_of_ble_eq_true rfl) (Nat.le_of_ble_eq_true rfl) ?_
  refine lv_dup hx hb dL_law_3 rfl ?_
  have hPc := hP
  have hDc := hD
  have hKc := hK
  have hFc := z_free hDc hS hA
  refine va_callv (va_runI (As := []) (rest := [.ref h1]) ⟨hx, hb, hml, hown, hts⟩ (m_init l D h1 H.size) (cwI 0 hts (lw_meth q34) rfl rfl rfl (hts _ q28) (hts _ q32) (hts _ q33) rfl (by decide +kernel) ⟨(Nat.le_of_ble_eq_true rfl), (Nat.le_of_ble_eq_true rfl)⟩) ⟨fun a U g mk q => by obtain ⟨q0, q1, qP, qK, qD⟩ := q; exact ⟨q0, q1, qP, va_K.moved (u := U) (U := U.calling g mk a) (Vm.Alike.refl U.vm) qK, qD⟩, fun U hU hW => ⟨rfl, by rw [hU], by rw [hU]; exact hPc, va_K.moved hW.alike hKc, hDc.weaken (fun _ _ _ _ => trivial)⟩⟩ rfl rfl hl.1 rfl (lv_room (Nat.le_of_ble_eq_true rfl)) dL_law_4 ⟨(Nat.le_of_ble_eq_true rfl), (Nat.le_of_ble_eq_true rfl)⟩) hS (fun q _ h => hFc q h) hFc (fun u t H1 locs ht hvm hw1 hB hz1 hk1 hS => ?_)
  obtain ⟨ad1, cs1, hP1, hK1, hD1⟩ := hB
  rw [ht] at hP1
  have hK1 := va_K.moved hvm.symm hK1
  have hD1 := hD1.weaken (B := fun q => s.heap.size ≤ q) (fun k q _ h => hFc q.1 h)
  refine W.widen (k := 19) (n := 323) (Nat.le_of_ble_eq_true rfl) (Nat.le_of_ble_eq_true rfl) ?_
  refine lv_astore_n (lv' := [(1, .ref h1), (0, .ref b)]) hx hb dL_law_7 rfl hl (by decide) rfl (fun ls hl => ?_)
  refine va_new (ci := 1) (fs := [.null, .null, .null, .null, .int 0, .null, .null, .null, .int 0]) (C := RX1) (T := TX1) (N := 9) hx hb hts in_X1 tyX1 tyX1_ok hown (hts _ q267) (hts _ q268) (hts _ q29) hK1 hP1 hD1 hS hA rfl (fun j hj => by rcases (show j = 0 ∨ j = 1 ∨ j = 2 ∨ j = 3 ∨ j = 4 ∨ j = 5 ∨ j = 6 ∨ j = 7 ∨ j = 8 by omega) with rfl | rfl | rfl | rfl | rfl | rfl | rfl | rfl | rfl <;> rfl) (Nat.le_of_ble_eq_true rfl) (Nat.le_of_ble_eq_true rfl) dL_law_8 (fun h2 H hP hD hS => ?_)
  refine W.widen (k := 20) (n := 332) (Nat.le_of_ble_eq_true rfl) (Nat.le_of_ble_eq_true rfl) ?_
  refine lv_dup hx hb dL_law_11 rfl ?_
  have hPc := z2_Pr hP
  have hDc := z2_Dr hD
  have hKc := hK
  have hFc := z_free hDc hS hA
  refine va_callv (va_runI (As := []) (rest := [.ref h2]) ⟨hx, hb, hml, hown, hts⟩ (n_init l D h2 H.size) (cwI 0 hts (lw_meth q271) rfl rfl rfl (hts _ q29) (hts _ q269) (hts _ q270) rfl (by decide +kernel) ⟨(Nat.le_of_ble_eq_true rfl), (Nat.le_of_ble_eq_true rfl)⟩) ⟨fun a U g mk q => by obtain ⟨q0, q1, qP, qK, qD⟩ := q; exact ⟨q0, q1, qP, va_K.moved (u := U) (U := U.calling g mk a) (Vm.Alike.refl U.vm) qK, qD⟩, fun U hU hW => ⟨rfl, by rw [hU], by rw [hU]; exact hPc, va_K.moved hW.alike hKc, hDc.weaken (fun _ _ _ _ => trivial)⟩⟩ rfl rfl hl.1 rfl (lv_room (Nat.le_of_ble_eq_true rfl)) dL_law_12 ⟨(Nat.le_of_ble_eq_true rfl), (Nat.le_of_ble_eq_true rfl)⟩) hS (fun q _ h => hFc q h) hFc (fun u t H1 locs ht hvm hw2 hB hz1 hk1 hS => ?_)
  obtain ⟨ad2, cs2, hP2, hK2, hD2⟩ := hB
  rw [ht] at hP2
  have hK2 := va_K.moved hvm.symm hK2
  obtain ⟨hP, hD⟩ := z2_join (a := wX h1 ad1 cs1 zF0) (b := []) hP hD hk1 hFc hP2 hD2
  refine W.widen (k := 27) (n := 428) (Nat.le_of_ble_eq_true rfl) (Nat.le_of_ble_eq_true rfl) ?_
  refine lv_astore_n (lv' := [(2, .ref h2), (1, .ref h1), (0, .ref b)]) hx hb dL_law_15 rfl hl (by decide) rfl (fun ls hl => ?_)
  refine lv_iconst (v := nI 0) hx hb dL_law_16 (by decide) ?_
  refine lv_istore_n (lv' := [(3, .int (nI 0)), (2, .ref h2), (1, .ref h1), (0, .ref b)]) hx hb dL_law_17 rfl hl (by decide) rfl (fun ls hl => ?_)
  have KK : zok (p, l, e, room_1, s, m, #[Value.ref b], below, meth, c, lw_Z below #[Value.ref b] s, D, (fun q => s.heap.size ≤ q), 4, 27, 428) "SpecLoadSchedLaw" cL_law 4 (tyX cs1 ++ tyM cs2) 8 278 := ⟨hx, hb, rfl, hml, hown, hts, hlocks, hK1.app hK2, hA, rfl, rfl, (Nat.le_of_ble_eq_true rfl), (Nat.le_of_ble_eq_true rfl)⟩
  refine law_loop (h1 := h1) (ad1 := ad1) (h2 := h2) (ad2 := ad2) KK ⟨hX, hbl, fun z => absurd hbl (Nat.not_lt.mpr z)⟩ hL ?_ (L + 1) 0 zF0 zM0 (Nat.zero_le _) (by omega) zI_0 H1 locs ls hP hD hS hl
  intro lv U H locs ls hP hD hS hl
  refine va_forget (fun q hq => hS.2.2 q hq) ?_
  refine W.widen (k := 600000) (n := 7290000) (Nat.le_of_ble_eq_true rfl) (Nat.le_of_ble_eq_true rfl) ?_
  exact lw_ret hx hb hr hlocks dL_law_565
end
section
set_option maxRecDepth 100000
set_option maxHeartbeats 4000000 in
theorem lw_walk (l : Launch) (b : Addr) (xs : List Int32) : MetFree l x (headSpec (Jvm.Cond.code x code maxLocals ret :: tables_1) room_1) (lw_P b xs) (fun _ _ _ _ _ => True) lw_Q := by
  refine MetFree.of_bodyS (code := code) (maxLocals := maxLocals) (ret := ret) (by decide) ?_ ?_
  · intro args s m h hn
    obtain ⟨meth, c, h1, h2, h3, h4, h5, h6, -, -⟩ := Cond.code_spec hn (atoms_spec (ws := Jvm.Cond.code x code maxLocals ret :: tables_1) h _ List.mem_cons_self)
    exact ⟨meth, c, h1, h2, h3, h4, h5, h6⟩
  · intro p e s m args below meth c s₁ B hml0 hP _
    obtain ⟨rfl, hx, hbd, hgv⟩ := hP
    obtain ⟨scr, harrAt, hlist, hof, hsmall⟩ := hx
    obtain ⟨hcb, hkn, -, -⟩ := State.arrayAt?_spec harrAt
    have hown : s.vm.findClass R_law = some m.cls := findClass_of_methodNamed B.named
    have hts0 : ∀ c ∈ (Jvm.Cond.code x code maxLocals ret :: tables_1), c.before #[Value.ref b] s = true := atoms_spec (ws := Jvm.Cond.code x code maxLocals ret :: tables_1) B.pre
    have hts : ∀ w ∈ lw_tbl, w.before #[Value.ref b] s = true := k2_hts_sels lw_privs (fun w hw => hts0 w (List.mem_cons_of_mem _ hw)) lw_privs_ok
    have hml : c.maxLocals = 4 := B.maxLocals_eq (hts0 _ List.mem_cons_self)
    have X₀ : Stand p l e room_1 s m #[Value.ref b] below meth c s₁ [] 0 0 := Stand.of_body B
    have hh0 : s₁.heap = s.heap := by rw [B.state]; rfl
    have hsz : scr.slots.size = xs.length := by rw [← Array.length_toList, hlist, List.length_map]
    have hval : ∀ j : Nat, j < xs.length → scr.slots[j]? = some (.int (xs.getD j 0)) := fun j hj => by
      rw [← Array.getElem?_toList, hlist]
      simp [hj]
    have hbl : b < s.heap.size := (Array.getElem?_eq_some_iff.mp hcb).1
    have hX : va_X b xs.length (fun j => xs.getD j 0) s s.heap := ⟨scr, hcb, hof, hkn, hsz, hval⟩
    have K : W p l e room_1 s m #[Value.ref b] below meth c s₁.heap [] 0 0 (lw_Z below #[Value.ref b] s) (entryFrame m ([Value.ref b] : List Value).toArray 4) := by
      rw [hh0]
      exact whole_start l hbd ⟨B.exec, B.bytes, B.returns, hml, hown, hts, hX, hbl, B.notSynchronized, hgv⟩
    obtain ⟨t, a1, o, b1, b2, b3⟩ := K s₁ rfl X₀
    exact ⟨t, o, a1, b1, b2, b3⟩
theorem lw_pre_spec {args : Array Value} {s : State} (h : (Jvm.Cond.and given_1 narrow_1).before args s = true) (hr : rest_1_c.before args s = true) : ∃ (b : Addr) (xs : List Int32), lw_P b xs args s := by
  have hs := flat_of_before _ h
  have hq := flat_of_before _ hr
  have hc : (Cond.count 1).before args s = true := hs _ (by decide +kernel)
  have harr : (Cond.arrayOf (.arg 0) .int).before args s = true := hs _ (by decide +kernel)
  have hle : (Cond.le (.length (.arg 0)) (.int 256)).before args s = true := hs _ (by decide +kernel)
  have hlen : (Cond.isInt (.length (.arg 0))).before args s = true := hq _ (by decide +kernel)
  have hall : (Cond.all (.arg 0) (.isInt (.elem (.arg 0) (.index 0)))).before args s = true := hq _ (by decide +kernel)
  obtain ⟨b, xs, hb, hx⟩ := State.ints_of_pre rfl harr hlen hall
  have hsm : xs.length < 2 ^ 31 := hx.choose_spec.2.2.2
  have hev : (Term.length (.arg 0)).eval args s none [] s = some (.int xs.length.toInt32) := hx.length_eval hb
  have hv := Cond.le_ints hev (show (Term.int 256).eval args s none [] s = some (.int 256) from rfl)
  have hd : xs.length.toInt32 ≤ 256 := by
    simpa [Cond.before, Cond.holds, hv] using hle
  have hN : xs.length ≤ 256 := (Int32.ofNat_le_ofNat hsm (by decide)).mp (show Int32.ofNat xs.length ≤ Int32.ofNat 256 from hd)
  exact ⟨b, xs, Cond.one_arg hc (show args[0]? = some (.ref b) from hb), hx, hN, h⟩
theorem lw_comes (l : Launch) : Comes l x (Jvm.Cond.code x code maxLocals ret :: tables_1) room_1 (fun tb e args s => Calls_1 tb e args s ∧ rest_1 tb e args s ∧ Pre_1 tb e args s)
    (fun _ _ args s o t => lw_Q args s o t) := by
  intro p e ha hc hk s m args below hf hfit hheap happ hpre
  obtain ⟨b, xs, hP⟩ := lw_pre_spec hpre.2.2 hpre.2.1
  obtain ⟨k, o, h1, h2, h3, hQ⟩ := lw_walk l b xs p e ha hc hk s m args below hf ((Spec.applies_iff_loose hf).mp happ).1 hP trivial
  exact ⟨k, o, h1, h2, h3, hQ⟩
theorem lw_frame {s t : State} {o : Outcome} {args : Array Value} (h : Framed s o t [] 600000 7290000) :
    Framed s o t (fieldLocs frame_1_writes args s ++ arrayLocs frame_1_arrays args s ++ staticLocs frame_1_statics s) 600000 7290000 := h
theorem lw_limb (L : Cond) (hL : ∀ (args : Array Value) (s t : State), L.after args s (.returned (some (.int 1))) t = true) :
    ArmFor flags0 classFile x code maxLocals ret World_1 tables_1 room_1 Calls_1 rest_1 Pre_1
      (fun tb e a s o t => postC L tb e a s o t ∧ Framed s o t (fieldLocs frame_1_writes a s ++ arrayLocs frame_1_arrays a s ++ staticLocs frame_1_statics s) 600000 7290000) := by
  intro l _ _ _ p e ha hc hk s m args below hf hfit hheap happ hpre
  obtain ⟨k, o, h1, h2, h3, rfl, hF⟩ := lw_comes l p e ha hc hk s m args below hf hfit hheap happ hpre
  exact ⟨k, _, h1, h2, h3, hL args s _, lw_frame hF⟩
theorem i_vc : Claimed_1_1 ∧ Claimed_1_2 := ⟨lw_limb limb_1_1 (fun args s t => by simp [limb_1_1, Cond.after, Cond.holds, Cond.value]), lw_limb limb_1_2 (fun args s t => Cond.after_iff.mpr (by
  first | (rw [show limb_1_2 = Cond.eq .result (.int 1) from rfl, Cond.eq_ints (x := 1) (y := 1) rfl rfl]; simp; done) | (simp [limb_1_2, Cond.value, Term.eval]; done)))⟩
end
