section
/-- a private method of a class that the tables say can be made, by its rows of tables_1 -/
def lw_okq (q : MethodName × Nat) : Prop := (q.1.cls ≠ "java/lang/invoke/MethodHandle" ∧ q.1.cls ≠ "java/lang/invoke/VarHandle") ∧ Cond.instantiable q.1.cls q.2 ∈ tables_1 ∧ Cond.privateMethod q.1 ∈ tables_1 ∧ Cond.instanceMethod q.1 ∈ tables_1
set_option maxRecDepth 100000
theorem lw_t1 {w : Cond} (h : w ∈ tables_1_1) : w ∈ tables_1 := List.mem_append_left _ h
theorem lw_t2 {w : Cond} (h : w ∈ tables_1_2) : w ∈ tables_1 := List.mem_append_right _ h
theorem lw_p0 : lw_okq (⟨"TrapProver", "noInstruction", "(I)Z"⟩, 16) := ⟨⟨by decide +kernel, by decide +kernel⟩, lw_t1 (List.mem_of_getElem? (i := 4) rfl), lw_t1 (List.mem_of_getElem? (i := 70) rfl), lw_t1 (List.mem_of_getElem? (i := 71) rfl)⟩
theorem lw_p1 : lw_okq (⟨"TrapProver", "prepare", "()V"⟩, 16) := ⟨⟨by decide +kernel, by decide +kernel⟩, lw_t1 (List.mem_of_getElem? (i := 4) rfl), lw_t1 (List.mem_of_getElem? (i := 86) rfl), lw_t1 (List.mem_of_getElem? (i := 87) rfl)⟩
theorem lw_p2 : lw_okq (⟨"TrapProver", "settle", "(I)Z"⟩, 16) := ⟨⟨by decide +kernel, by decide +kernel⟩, lw_t1 (List.mem_of_getElem? (i := 4) rfl), lw_t1 (List.mem_of_getElem? (i := 90) rfl), lw_t1 (List.mem_of_getElem? (i := 91) rfl)⟩
theorem lw_p3 : lw_okq (⟨"TrapProver", "passOn", "()V"⟩, 16) := ⟨⟨by decide +kernel, by decide +kernel⟩, lw_t1 (List.mem_of_getElem? (i := 4) rfl), lw_t1 (List.mem_of_getElem? (i := 94) rfl), lw_t1 (List.mem_of_getElem? (i := 95) rfl)⟩
theorem lw_p4 : lw_okq (⟨"TrapProver", "takeFresh", "(I)Z"⟩, 16) := ⟨⟨by decide +kernel, by decide +kernel⟩, lw_t1 (List.mem_of_getElem? (i := 4) rfl), lw_t1 (List.mem_of_getElem? (i := 98) rfl), lw_t1 (List.mem_of_getElem? (i := 99) rfl)⟩
theorem lw_p5 : lw_okq (⟨"TrapProver", "transfer", "(I)V"⟩, 16) := ⟨⟨by decide +kernel, by decide +kernel⟩, lw_t1 (List.mem_of_getElem? (i := 4) rfl), lw_t1 (List.mem_of_getElem? (i := 102) rfl), lw_t1 (List.mem_of_getElem? (i := 103) rfl)⟩
theorem lw_p6 : lw_okq (⟨"TrapProver", "setRow", "(III)V"⟩, 16) := ⟨⟨by decide +kernel, by decide +kernel⟩, lw_t1 (List.mem_of_getElem? (i := 4) rfl), lw_t1 (List.mem_of_getElem? (i := 106) rfl), lw_t1 (List.mem_of_getElem? (i := 107) rfl)⟩
theorem lw_p7 : lw_okq (⟨"TrapProver", "pairs", "(II)V"⟩, 16) := ⟨⟨by decide +kernel, by decide +kernel⟩, lw_t1 (List.mem_of_getElem? (i := 4) rfl), lw_t1 (List.mem_of_getElem? (i := 110) rfl), lw_t1 (List.mem_of_getElem? (i := 111) rfl)⟩
theorem lw_p8 : lw_okq (⟨"TrapProver", "pair", "(III)V"⟩, 16) := ⟨⟨by decide +kernel, by decide +kernel⟩, lw_t1 (List.mem_of_getElem? (i := 4) rfl), lw_t1 (List.mem_of_getElem? (i := 114) rfl), lw_t1 (List.mem_of_getElem? (i := 115) rfl)⟩
theorem lw_p9 : lw_okq (⟨"TrapProver", "addPair", "(II)V"⟩, 16) := ⟨⟨by decide +kernel, by decide +kernel⟩, lw_t1 (List.mem_of_getElem? (i := 4) rfl), lw_t1 (List.mem_of_getElem? (i := 118) rfl), lw_t1 (List.mem_of_getElem? (i := 119) rfl)⟩
theorem lw_p10 : lw_okq (⟨"TrapProver", "checkRow", "(III)V"⟩, 16) := ⟨⟨by decide +kernel, by decide +kernel⟩, lw_t1 (List.mem_of_getElem? (i := 4) rfl), lw_t1 (List.mem_of_getElem? (i := 122) rfl), lw_t1 (List.mem_of_getElem? (i := 123) rfl)⟩
theorem lw_p11 : lw_okq (⟨"TrapProver", "branchRow", "(II)V"⟩, 16) := ⟨⟨by decide +kernel, by decide +kernel⟩, lw_t1 (List.mem_of_getElem? (i := 4) rfl), lw_t1 (List.mem_of_getElem? (i := 127) rfl), lw_t1 (List.mem_of_getElem? (i := 128) rfl)⟩
theorem lw_p12 : lw_okq (⟨"TrapProver", "send", "(IZ)V"⟩, 16) := ⟨⟨by decide +kernel, by decide +kernel⟩, lw_t1 (List.mem_of_getElem? (i := 4) rfl), lw_t1 (List.mem_of_getElem? (i := 134) rfl), lw_t1 (List.mem_of_getElem? (i := 135) rfl)⟩
theorem lw_p13 : lw_okq (⟨"TrapProver", "findEndless", "()V"⟩, 16) := ⟨⟨by decide +kernel, by decide +kernel⟩, lw_t1 (List.mem_of_getElem? (i := 4) rfl), lw_t1 (List.mem_of_getElem? (i := 138) rfl), lw_t1 (List.mem_of_getElem? (i := 139) rfl)⟩
theorem lw_p14 : lw_okq (⟨"TrapProver", "prune", "(I)Z"⟩, 16) := ⟨⟨by decide +kernel, by decide +kernel⟩, lw_t1 (List.mem_of_getElem? (i := 4) rfl), lw_t1 (List.mem_of_getElem? (i := 142) rfl), lw_t1 (List.mem_of_getElem? (i := 143) rfl)⟩
theorem lw_p15 : lw_okq (⟨"TrapProver", "leadsOn", "(III)Z"⟩, 16) := ⟨⟨by decide +kernel, by decide +kernel⟩, lw_t1 (List.mem_of_getElem? (i := 4) rfl), lw_t1 (List.mem_of_getElem? (i := 146) rfl), lw_t1 (List.mem_of_getElem? (i := 147) rfl)⟩
def lw_privs_1 : List (MethodName × Nat) := [(⟨"TrapProver", "noInstruction", "(I)Z"⟩, 16), (⟨"TrapProver", "prepare", "()V"⟩, 16), (⟨"TrapProver", "settle", "(I)Z"⟩, 16), (⟨"TrapProver", "passOn", "()V"⟩, 16), (⟨"TrapProver", "takeFresh", "(I)Z"⟩, 16), (⟨"TrapProver", "transfer", "(I)V"⟩, 16), (⟨"TrapProver", "setRow", "(III)V"⟩, 16), (⟨"TrapProver", "pairs", "(II)V"⟩, 16), (⟨"TrapProver", "pair", "(III)V"⟩, 16), (⟨"TrapProver", "addPair", "(II)V"⟩, 16), (⟨"TrapProver", "checkRow", "(III)V"⟩, 16), (⟨"TrapProver", "branchRow", "(II)V"⟩, 16), (⟨"TrapProver", "send", "(IZ)V"⟩, 16), (⟨"TrapProver", "findEndless", "()V"⟩, 16), (⟨"TrapProver", "prune", "(I)Z"⟩, 16), (⟨"TrapProver", "leadsOn", "(III)Z"⟩, 16)]
theorem lw_r1 : ∀ q ∈ lw_privs_1, lw_okq q := List.forall_mem_cons.mpr ⟨lw_p0, List.forall_mem_cons.mpr ⟨lw_p1, List.forall_mem_cons.mpr ⟨lw_p2, List.forall_mem_cons.mpr ⟨lw_p3, List.forall_mem_cons.mpr ⟨lw_p4, List.forall_mem_cons.mpr ⟨lw_p5, List.forall_mem_cons.mpr ⟨lw_p6, List.forall_mem_cons.mpr ⟨lw_p7, List.forall_mem_cons.mpr ⟨lw_p8, List.forall_mem_cons.mpr ⟨lw_p9, List.forall_mem_cons.mpr ⟨lw_p10, List.forall_mem_cons.mpr ⟨lw_p11, List.forall_mem_cons.mpr ⟨lw_p12, List.forall_mem_cons.mpr ⟨lw_p13, List.forall_mem_cons.mpr ⟨lw_p14, List.forall_mem_cons.mpr ⟨lw_p15, fun _ h => absurd h List.not_mem_nil⟩⟩⟩⟩⟩⟩⟩⟩⟩⟩⟩⟩⟩⟩⟩⟩
theorem lw_p16 : lw_okq (⟨"TrapProver", "anyAlive", "(IZ)Z"⟩, 16) := ⟨⟨by decide +kernel, by decide +kernel⟩, lw_t1 (List.mem_of_getElem? (i := 4) rfl), lw_t1 (List.mem_of_getElem? (i := 150) rfl), lw_t1 (List.mem_of_getElem? (i := 151) rfl)⟩
theorem lw_p17 : lw_okq (⟨"TrapProver", "trapsAt", "(I)I"⟩, 16) := ⟨⟨by decide +kernel, by decide +kernel⟩, lw_t1 (List.mem_of_getElem? (i := 4) rfl), lw_t1 (List.mem_of_getElem? (i := 169) rfl), lw_t1 (List.mem_of_getElem? (i := 170) rfl)⟩
theorem lw_p18 : lw_okq (⟨"TrapProverModel", "bad", "(I)Z"⟩, 13) := ⟨⟨by decide +kernel, by decide +kernel⟩, lw_t1 (List.mem_of_getElem? (i := 194) rfl), lw_t2 (List.mem_of_getElem? (i := 8) rfl), lw_t2 (List.mem_of_getElem? (i := 9) rfl)⟩
theorem lw_p19 : lw_okq (⟨"TrapProverModel", "workOut", "()V"⟩, 13) := ⟨⟨by decide +kernel, by decide +kernel⟩, lw_t1 (List.mem_of_getElem? (i := 194) rfl), lw_t2 (List.mem_of_getElem? (i := 24) rfl), lw_t2 (List.mem_of_getElem? (i := 25) rfl)⟩
theorem lw_p20 : lw_okq (⟨"TrapProverModel", "take", "(I)Z"⟩, 13) := ⟨⟨by decide +kernel, by decide +kernel⟩, lw_t1 (List.mem_of_getElem? (i := 194) rfl), lw_t2 (List.mem_of_getElem? (i := 28) rfl), lw_t2 (List.mem_of_getElem? (i := 29) rfl)⟩
theorem lw_p21 : lw_okq (⟨"TrapProverModel", "round", "()V"⟩, 13) := ⟨⟨by decide +kernel, by decide +kernel⟩, lw_t1 (List.mem_of_getElem? (i := 194) rfl), lw_t2 (List.mem_of_getElem? (i := 32) rfl), lw_t2 (List.mem_of_getElem? (i := 33) rfl)⟩
theorem lw_p22 : lw_okq (⟨"TrapProverModel", "goOn", "(III)V"⟩, 13) := ⟨⟨by decide +kernel, by decide +kernel⟩, lw_t1 (List.mem_of_getElem? (i := 194) rfl), lw_t2 (List.mem_of_getElem? (i := 36) rfl), lw_t2 (List.mem_of_getElem? (i := 37) rfl)⟩
theorem lw_p23 : lw_okq (⟨"TrapProverModel", "after", "(IIII)I"⟩, 13) := ⟨⟨by decide +kernel, by decide +kernel⟩, lw_t1 (List.mem_of_getElem? (i := 194) rfl), lw_t2 (List.mem_of_getElem? (i := 40) rfl), lw_t2 (List.mem_of_getElem? (i := 41) rfl)⟩
theorem lw_p24 : lw_okq (⟨"TrapProverModel", "goOnForEver", "()V"⟩, 13) := ⟨⟨by decide +kernel, by decide +kernel⟩, lw_t1 (List.mem_of_getElem? (i := 194) rfl), lw_t2 (List.mem_of_getElem? (i := 44) rfl), lw_t2 (List.mem_of_getElem? (i := 45) rfl)⟩
theorem lw_p25 : lw_okq (⟨"TrapProverModel", "kept", "(I)I"⟩, 13) := ⟨⟨by decide +kernel, by decide +kernel⟩, lw_t1 (List.mem_of_getElem? (i := 194) rfl), lw_t2 (List.mem_of_getElem? (i := 48) rfl), lw_t2 (List.mem_of_getElem? (i := 49) rfl)⟩
theorem lw_p26 : lw_okq (⟨"TrapProverModel", "count", "(I)I"⟩, 13) := ⟨⟨by decide +kernel, by decide +kernel⟩, lw_t1 (List.mem_of_getElem? (i := 194) rfl), lw_t2 (List.mem_of_getElem? (i := 52) rfl), lw_t2 (List.mem_of_getElem? (i := 53) rfl)⟩
def lw_privs_2 : List (MethodName × Nat) := [(⟨"TrapProver", "anyAlive", "(IZ)Z"⟩, 16), (⟨"TrapProver", "trapsAt", "(I)I"⟩, 16), (⟨"TrapProverModel", "bad", "(I)Z"⟩, 13), (⟨"TrapProverModel", "workOut", "()V"⟩, 13), (⟨"TrapProverModel", "take", "(I)Z"⟩, 13), (⟨"TrapProverModel", "round", "()V"⟩, 13), (⟨"TrapProverModel", "goOn", "(III)V"⟩, 13), (⟨"TrapProverModel", "after", "(IIII)I"⟩, 13), (⟨"TrapProverModel", "goOnForEver", "()V"⟩, 13), (⟨"TrapProverModel", "kept", "(I)I"⟩, 13), (⟨"TrapProverModel", "count", "(I)I"⟩, 13)]
theorem lw_r2 : ∀ q ∈ lw_privs_2, lw_okq q := List.forall_mem_cons.mpr ⟨lw_p16, List.forall_mem_cons.mpr ⟨lw_p17, List.forall_mem_cons.mpr ⟨lw_p18, List.forall_mem_cons.mpr ⟨lw_p19, List.forall_mem_cons.mpr ⟨lw_p20, List.forall_mem_cons.mpr ⟨lw_p21, List.forall_mem_cons.mpr ⟨lw_p22, List.forall_mem_cons.mpr ⟨lw_p23, List.forall_mem_cons.mpr ⟨lw_p24, List.forall_mem_cons.mpr ⟨lw_p25, List.forall_mem_cons.mpr ⟨lw_p26, fun _ h => absurd h List.not_mem_nil⟩⟩⟩⟩⟩⟩⟩⟩⟩⟩⟩
def lw_privs : List (MethodName × Nat) := lw_privs_1 ++ (lw_privs_2)
def lw_tbl : List Cond := k2_sels lw_privs ++ tables_1
theorem lw_privs_ok : ∀ q ∈ lw_privs, lw_okq q := by
  show ∀ q ∈ lw_privs_1 ++ (lw_privs_2), lw_okq q
  exact List.forall_mem_append.mpr ⟨lw_r1, lw_r2⟩
-- ===== ONE list of words for every method: the tables' words that hold all through a run =====
def lw_all : List Cond := lw_tbl.filter goodWord
/-- a word of the tables by its place: claim/WORDS.tsv -/
theorem lw_w {w : Cond} (i : Nat) (h : lw_tbl[i]? = some w) (g : goodWord w = true) : w ∈ lw_all := List.mem_filter.mpr ⟨List.mem_of_getElem? h, g⟩
theorem lw_all_tbl {w : Cond} (h : w ∈ lw_all) : w ∈ lw_tbl := (List.mem_filter.mp h).1
theorem lw_self : GoodIn lw_all lw_all := fun w h => ⟨h, good_of_word (List.mem_filter.mp h).2⟩
/-- a class's field words, by their places -/
theorem lw_in (ws : List Cond) (ps : List Nat) (hp : ws = ps.filterMap (fun i => lw_tbl[i]?)) (hg : ws.all goodWord = true) : ∀ w ∈ ws, w ∈ lw_all := by
  intro w h
  have h1 := List.all_eq_true.mp hg w h
  rw [hp] at h
  obtain ⟨i, -, hi⟩ := List.mem_filterMap.mp h
  exact lw_w i hi h1
/-- the words of a contract for the method y with code b, L locals, answer r -/
abbrev ws_ (y : MethodName) (b : ByteArray) (L : Nat) (r : Option FieldType) : List Cond := Cond.code y b L r :: lw_all
theorem lw_meth {y : MethodName} {b : ByteArray} {L : Nat} {r : Option FieldType} (h : Cond.code y b L r ∈ lw_all) : GoodIn lw_all (ws_ y b L r) := by
  intro w hw
  rcases List.mem_cons.mp hw with e | e
  · rw [e]
    exact lw_self _ h
  · exact lw_self _ e
theorem lw_app {a c : List Cond} (ha : ∀ w ∈ a, w ∈ lw_all) (hc : GoodIn lw_all c) : GoodIn lw_all (a ++ c) := by
  intro w hw
  rcases List.mem_append.mp hw with e | e
  · exact lw_self w (ha w e)
  · exact hc w e
/-- what a call through an object asks: cwV n hts (lw_V ..) -/
theorem lw_V {own : String} {idx : Nat} {C : String} {y : MethodName} {b : ByteArray} {L : Nat} {r : Option FieldType} (h1 : Cond.methodLink own idx y ∈ lw_all) (h2 : Cond.instanceMethod y ∈ lw_all) (h3 : Cond.selects C y y ∈ lw_all) (h4 : Cond.initialized C ∈ lw_all) (h5 : Cond.code y b L r ∈ lw_all) : GoodIn lw_all (wsV own idx C y (ws_ y b L r)) := by
  refine lw_app ?_ (lw_meth h5)
  intro w hw
  simp only [List.mem_cons, List.not_mem_nil, or_false] at hw
  rcases hw with e | e | e | e
  · rw [e]; exact h1
  · rw [e]; exact h2
  · rw [e]; exact h3
  · rw [e]; exact h4
/-- what a static call asks: va_cwS n hts (lw_S ..) -/
theorem lw_S {own : String} {idx : Nat} {y : MethodName} {b : ByteArray} {L : Nat} {r : Option FieldType} (h1 : Cond.methodLink own idx y ∈ lw_all) (h2 : Cond.static y ∈ lw_all) (h3 : Cond.initialized y.cls ∈ lw_all) (h4 : Cond.code y b L r ∈ lw_all) : GoodIn lw_all (va_wsS own idx y (ws_ y b L r)) := by
  refine lw_app ?_ (lw_meth h4)
  intro w hw
  simp only [List.mem_cons, List.not_mem_nil, or_false] at hw
  rcases hw with e | e | e
  · rw [e]; exact h1
  · rw [e]; exact h2
  · rw [e]; exact h3
/-- the words of a contract for a method WITH HANDLERS (hh: its table) -/
abbrev wsW_ (y : MethodName) (b : ByteArray) (L : Nat) (r : Option FieldType) (hh : List (Nat × Nat × Nat × Nat)) : List Cond := Cond.codeWith y b L r hh :: lw_all
theorem lw_methW {y : MethodName} {b : ByteArray} {L : Nat} {r : Option FieldType} {hh : List (Nat × Nat × Nat × Nat)} (h : Cond.codeWith y b L r hh ∈ lw_all) : GoodIn lw_all (wsW_ y b L r hh) := by
  intro w hw
  rcases List.mem_cons.mp hw with e | e
  · rw [e]
    exact lw_self _ h
  · exact lw_self _ e
/-- any list of words by their places (lw_in), good -/
theorem lw_good {ws : List Cond} (h : ∀ w ∈ ws, w ∈ lw_all) : GoodIn lw_all ws := fun w hw => lw_self w (h w hw)
/-- what a call of a method with handlers asks: vx_cwVW n hts (lw_VW ..), vx_cwSW n hts (lw_SW ..) -/
theorem lw_VW {own : String} {idx : Nat} {C : String} {y : MethodName} {b : ByteArray} {L : Nat} {r : Option FieldType} {hh : List (Nat × Nat × Nat × Nat)} (h1 : Cond.methodLink own idx y ∈ lw_all) (h2 : Cond.instanceMethod y ∈ lw_all) (h3 : Cond.selects C y y ∈ lw_all) (h4 : Cond.initialized C ∈ lw_all) (h5 : Cond.codeWith y b L r hh ∈ lw_all) : GoodIn lw_all (wsV own idx C y (wsW_ y b L r hh)) := by
  refine lw_app ?_ (lw_methW h5)
  intro w hw
  simp only [List.mem_cons, List.not_mem_nil, or_false] at hw
  rcases hw with e | e | e | e
  · rw [e]; exact h1
  · rw [e]; exact h2
  · rw [e]; exact h3
  · rw [e]; exact h4
theorem lw_SW {own : String} {idx : Nat} {y : MethodName} {b : ByteArray} {L : Nat} {r : Option FieldType} {hh : List (Nat × Nat × Nat × Nat)} (h1 : Cond.methodLink own idx y ∈ lw_all) (h2 : Cond.static y ∈ lw_all) (h3 : Cond.initialized y.cls ∈ lw_all) (h4 : Cond.codeWith y b L r hh ∈ lw_all) : GoodIn lw_all (va_wsS own idx y (wsW_ y b L r hh)) := by
  refine lw_app ?_ (lw_methW h4)
  intro w hw
  simp only [List.mem_cons, List.not_mem_nil, or_false] at hw
  rcases hw with e | e | e
  · rw [e]; exact h1
  · rw [e]; exact h2
  · rw [e]; exact h3
/-- a word by its place in its run of the tables -/
theorem lw_at {r : List Cond} (hr : ∀ w ∈ r, w ∈ lw_tbl) {w : Cond} (i : Nat) (h : r[i]? = some w) : w ∈ lw_tbl := hr w (List.mem_of_getElem? h)
theorem lw_g {w : Cond} (h : w ∈ lw_tbl) (g : goodWord w = true) : w ∈ lw_all := List.mem_filter.mpr ⟨h, g⟩
theorem lw_ms : ∀ w ∈ k2_sels lw_privs, w ∈ lw_tbl := fun w h => show w ∈ k2_sels lw_privs ++ tables_1 from List.mem_append_left _ h
theorem lw_m1 : ∀ w ∈ tables_1_1, w ∈ lw_tbl := fun w h => show w ∈ k2_sels lw_privs ++ tables_1 from List.mem_append_right (k2_sels lw_privs) (show w ∈ tables_1 from List.mem_append_left _ h)
theorem lw_m2 : ∀ w ∈ tables_1_2, w ∈ lw_tbl := fun w h => show w ∈ k2_sels lw_privs ++ tables_1 from List.mem_append_right (k2_sels lw_privs) (show w ∈ tables_1 from List.mem_append_right _ h)
theorem qs0 : (Cond.selects "TrapProver" ⟨"TrapProver", "noInstruction", "(I)Z"⟩ ⟨"TrapProver", "noInstruction", "(I)Z"⟩) ∈ lw_all := lw_g (lw_at lw_ms 0 rfl) rfl
theorem qs1 : (Cond.selects "TrapProver" ⟨"TrapProver", "prepare", "()V"⟩ ⟨"TrapProver", "prepare", "()V"⟩) ∈ lw_all := lw_g (lw_at lw_ms 1 rfl) rfl
theorem qs2 : (Cond.selects "TrapProver" ⟨"TrapProver", "settle", "(I)Z"⟩ ⟨"TrapProver", "settle", "(I)Z"⟩) ∈ lw_all := lw_g (lw_at lw_ms 2 rfl) rfl
theorem qs3 : (Cond.selects "TrapProver" ⟨"TrapProver", "passOn", "()V"⟩ ⟨"TrapProver", "passOn", "()V"⟩) ∈ lw_all := lw_g (lw_at lw_ms 3 rfl) rfl
theorem qs4 : (Cond.selects "TrapProver" ⟨"TrapProver", "takeFresh", "(I)Z"⟩ ⟨"TrapProver", "takeFresh", "(I)Z"⟩) ∈ lw_all := lw_g (lw_at lw_ms 4 rfl) rfl
theorem qs5 : (Cond.selects "TrapProver" ⟨"TrapProver", "transfer", "(I)V"⟩ ⟨"TrapProver", "transfer", "(I)V"⟩) ∈ lw_all := lw_g (lw_at lw_ms 5 rfl) rfl
theorem qs6 : (Cond.selects "TrapProver" ⟨"TrapProver", "setRow", "(III)V"⟩ ⟨"TrapProver", "setRow", "(III)V"⟩) ∈ lw_all := lw_g (lw_at lw_ms 6 rfl) rfl
theorem qs7 : (Cond.selects "TrapProver" ⟨"TrapProver", "pairs", "(II)V"⟩ ⟨"TrapProver", "pairs", "(II)V"⟩) ∈ lw_all := lw_g (lw_at lw_ms 7 rfl) rfl
theorem qs8 : (Cond.selects "TrapProver" ⟨"TrapProver", "pair", "(III)V"⟩ ⟨"TrapProver", "pair", "(III)V"⟩) ∈ lw_all := lw_g (lw_at lw_ms 8 rfl) rfl
theorem qs9 : (Cond.selects "TrapProver" ⟨"TrapProver", "addPair", "(II)V"⟩ ⟨"TrapProver", "addPair", "(II)V"⟩) ∈ lw_all := lw_g (lw_at lw_ms 9 rfl) rfl
theorem qs10 : (Cond.selects "TrapProver" ⟨"TrapProver", "checkRow", "(III)V"⟩ ⟨"TrapProver", "checkRow", "(III)V"⟩) ∈ lw_all := lw_g (lw_at lw_ms 10 rfl) rfl
theorem qs11 : (Cond.selects "TrapProver" ⟨"TrapProver", "branchRow", "(II)V"⟩ ⟨"TrapProver", "branchRow", "(II)V"⟩) ∈ lw_all := lw_g (lw_at lw_ms 11 rfl) rfl
theorem qs12 : (Cond.selects "TrapProver" ⟨"TrapProver", "send", "(IZ)V"⟩ ⟨"TrapProver", "send", "(IZ)V"⟩) ∈ lw_all := lw_g (lw_at lw_ms 12 rfl) rfl
theorem qs13 : (Cond.selects "TrapProver" ⟨"TrapProver", "findEndless", "()V"⟩ ⟨"TrapProver", "findEndless", "()V"⟩) ∈ lw_all := lw_g (lw_at lw_ms 13 rfl) rfl
theorem qs14 : (Cond.selects "TrapProver" ⟨"TrapProver", "prune", "(I)Z"⟩ ⟨"TrapProver", "prune", "(I)Z"⟩) ∈ lw_all := lw_g (lw_at lw_ms 14 rfl) rfl
theorem qs15 : (Cond.selects "TrapProver" ⟨"TrapProver", "leadsOn", "(III)Z"⟩ ⟨"TrapProver", "leadsOn", "(III)Z"⟩) ∈ lw_all := lw_g (lw_at lw_ms 15 rfl) rfl
theorem qs16 : (Cond.selects "TrapProver" ⟨"TrapProver", "anyAlive", "(IZ)Z"⟩ ⟨"TrapProver", "anyAlive", "(IZ)Z"⟩) ∈ lw_all := lw_g (lw_at lw_ms 16 rfl) rfl
theorem qs17 : (Cond.selects "TrapProver" ⟨"TrapProver", "trapsAt", "(I)I"⟩ ⟨"TrapProver", "trapsAt", "(I)I"⟩) ∈ lw_all := lw_g (lw_at lw_ms 17 rfl) rfl
theorem qs18 : (Cond.selects "TrapProverModel" ⟨"TrapProverModel", "bad", "(I)Z"⟩ ⟨"TrapProverModel", "bad", "(I)Z"⟩) ∈ lw_all := lw_g (lw_at lw_ms 18 rfl) rfl
theorem qs19 : (Cond.selects "TrapProverModel" ⟨"TrapProverModel", "workOut", "()V"⟩ ⟨"TrapProverModel", "workOut", "()V"⟩) ∈ lw_all := lw_g (lw_at lw_ms 19 rfl) rfl
theorem qs20 : (Cond.selects "TrapProverModel" ⟨"TrapProverModel", "take", "(I)Z"⟩ ⟨"TrapProverModel", "take", "(I)Z"⟩) ∈ lw_all := lw_g (lw_at lw_ms 20 rfl) rfl
theorem qs21 : (Cond.selects "TrapProverModel" ⟨"TrapProverModel", "round", "()V"⟩ ⟨"TrapProverModel", "round", "()V"⟩) ∈ lw_all := lw_g (lw_at lw_ms 21 rfl) rfl
theorem qs22 : (Cond.selects "TrapProverModel" ⟨"TrapProverModel", "goOn", "(III)V"⟩ ⟨"TrapProverModel", "goOn", "(III)V"⟩) ∈ lw_all := lw_g (lw_at lw_ms 22 rfl) rfl
theorem qs23 : (Cond.selects "TrapProverModel" ⟨"TrapProverModel", "after", "(IIII)I"⟩ ⟨"TrapProverModel", "after", "(IIII)I"⟩) ∈ lw_all := lw_g (lw_at lw_ms 23 rfl) rfl
theorem qs24 : (Cond.selects "TrapProverModel" ⟨"TrapProverModel", "goOnForEver", "()V"⟩ ⟨"TrapProverModel", "goOnForEver", "()V"⟩) ∈ lw_all := lw_g (lw_at lw_ms 24 rfl) rfl
theorem qs25 : (Cond.selects "TrapProverModel" ⟨"TrapProverModel", "kept", "(I)I"⟩ ⟨"TrapProverModel", "kept", "(I)I"⟩) ∈ lw_all := lw_g (lw_at lw_ms 25 rfl) rfl
theorem qs26 : (Cond.selects "TrapProverModel" ⟨"TrapProverModel", "count", "(I)I"⟩ ⟨"TrapProverModel", "count", "(I)I"⟩) ∈ lw_all := lw_g (lw_at lw_ms 26 rfl) rfl
end
section
/-! BITS of an Int32 as a row, counts, boolean answers -/
def tp_bt (v : Int32) (y : Nat) : Bool := v.toBitVec.getLsbD y
theorem tp_bt_or (a b : Int32) (y : Nat) : tp_bt (a ||| b) y = (tp_bt a y || tp_bt b y) := by
  unfold tp_bt; rw [Int32.toBitVec_or, BitVec.getLsbD_or]
theorem tp_bt_and (a b : Int32) (y : Nat) : tp_bt (a &&& b) y = (tp_bt a y && tp_bt b y) := by
  unfold tp_bt; rw [Int32.toBitVec_and, BitVec.getLsbD_and]
theorem tp_bt_xor (a b : Int32) (y : Nat) : tp_bt (a ^^^ b) y = (tp_bt a y ^^ tp_bt b y) := by
  unfold tp_bt; rw [Int32.toBitVec_xor, BitVec.getLsbD_xor]
theorem tp_bt_ge (v : Int32) {y : Nat} (h : 32 ≤ y) : tp_bt v y = false := BitVec.getLsbD_of_ge _ _ h
theorem tp_bt_lt {v : Int32} {y : Nat} (h : tp_bt v y = true) : y < 32 := by
  rcases Nat.lt_or_ge y 32 with q | q
  · exact q
  · rw [tp_bt_ge v q] at h; cases h
theorem tp_bt_ext {a b : Int32} (h : ∀ y, tp_bt a y = tp_bt b y) : a = b := by
  apply Int32.toBitVec_inj.mp
  apply BitVec.eq_of_getLsbD_eq
  intro i _
  exact h i
theorem tp_bt_nI (n y : Nat) : tp_bt (nI n) y = (decide (y < 32) && n.testBit y) := by
  show (BitVec.ofNat 32 n).getLsbD y = _
  rw [BitVec.getLsbD_ofNat]
theorem tp_bt_zero (y : Nat) : tp_bt 0 y = false := by
  show (BitVec.ofNat 32 0).getLsbD y = false
  rw [BitVec.getLsbD_ofNat]; simp
theorem tp_bt_n0 (y : Nat) : tp_bt (nI 0) y = false := by rw [tp_bt_nI]; simp
theorem tp_bt_m1 {y : Nat} (h : y < 32) : tp_bt (-1) y = true := by
  show (BitVec.allOnes 32).getLsbD y = true
  rw [BitVec.getLsbD_allOnes]; simp [h]
theorem tp_bt_not (v : Int32) (y : Nat) : tp_bt (v ^^^ (-1)) y = (decide (y < 32) && !tp_bt v y) := by
  rw [tp_bt_xor]
  by_cases h : y < 32
  · rw [tp_bt_m1 h]; simp [h]
  · rw [tp_bt_ge _ (Nat.not_lt.mp h), tp_bt_ge _ (Nat.not_lt.mp h)]; simp [h]
theorem tp_bt_whole (y : Nat) : tp_bt 65535 y = decide (y < 16) := by
  show (BitVec.ofNat 32 (2 ^ 16 - 1)).getLsbD y = _
  rw [BitVec.getLsbD_ofNat, Nat.testBit_two_pow_sub_one]
  by_cases h : y < 16
  · simp [h]; omega
  · simp [h]
theorem tp_shl1 : ∀ j, j < 16 → nI 1 <<< (nI j &&& 31) = nI (2 ^ j) := by decide +kernel
theorem tp_bt_shl1 {j : Nat} (hj : j < 16) (y : Nat) : tp_bt (nI 1 <<< (nI j &&& 31)) y = decide (y = j) := by
  rw [tp_shl1 j hj, tp_bt_nI, Nat.testBit_two_pow]
  by_cases h : y = j
  · subst h; simp; omega
  · simp [h]; intro _ q; exact h q.symm
theorem tp_sh31 : ∀ j, j < 16 → ((nI j &&& 31).toBitVec.smod 32).toNat = j := by decide +kernel
theorem tp_bt_n1 (y : Nat) : tp_bt (nI 1) y = decide (y = 0) := by
  rw [tp_bt_nI]
  by_cases h : y = 0
  · subst h; rfl
  · cases y with
    | zero => exact absurd rfl h
    | succ y => simp [Nat.testBit_succ]
theorem tp_shr (v : Int32) {y : Nat} (hy : y < 16) : (v >>> (nI y &&& 31)) &&& nI 1 = if tp_bt v y then nI 1 else nI 0 := by
  have hv : (v >>> (nI y &&& 31)).toBitVec = v.toBitVec.sshiftRight y := by
    rw [Int32.toBitVec_shiftRight, BitVec.sshiftRight', tp_sh31 y hy]
  have h0 : tp_bt (v >>> (nI y &&& 31)) 0 = tp_bt v y := by
    unfold tp_bt
    rw [hv, BitVec.getLsbD_sshiftRight]
    have : y < 32 := by omega
    simp [this]
  apply tp_bt_ext
  intro i
  rw [tp_bt_and, tp_bt_n1]
  by_cases hi : i = 0
  · subst hi
    rw [h0]
    cases tp_bt v y
    · simp [tp_bt_n0]
    · simp [tp_bt_n1]
  · cases tp_bt v y
    · simp [tp_bt_n0, hi]
    · simp [tp_bt_n1, hi]
theorem tp_shr_t {v : Int32} {y : Nat} (hy : y < 16) (h : tp_bt v y = true) : (v >>> (nI y &&& 31)) &&& nI 1 = nI 1 := by rw [tp_shr v hy, if_pos h]
theorem tp_shr_f {v : Int32} {y : Nat} (hy : y < 16) (h : ¬ tp_bt v y = true) : (v >>> (nI y &&& 31)) &&& nI 1 = nI 0 := by rw [tp_shr v hy, if_neg h]
theorem tp_shr_iff (v : Int32) {y : Nat} (hy : y < 16) : (v >>> (nI y &&& 31)) &&& nI 1 = nI 1 ↔ tp_bt v y = true := by
  rw [tp_shr v hy]
  cases tp_bt v y
  · simp; decide
  · simp
theorem tp_ne0 {v : Int32} : ¬ v = 0 ↔ ∃ y, tp_bt v y = true := by
  constructor
  · intro h
    apply Classical.byContradiction
    intro q
    apply h
    apply tp_bt_ext
    intro y
    rw [tp_bt_zero]
    cases hb : tp_bt v y
    · rfl
    · exact absurd ⟨y, hb⟩ q
  · rintro ⟨y, hy⟩ rfl
    rw [tp_bt_zero] at hy; cases hy
theorem tp_eq0 {v : Int32} (h : ∀ y, ¬ tp_bt v y = true) : v = 0 := Classical.byContradiction fun q => by
  obtain ⟨y, hy⟩ := tp_ne0.mp q
  exact h y hy
/-- a row of sixteen -/
def tp_wf (v : Int32) : Prop := ∀ y, tp_bt v y = true → y < 16
/-- a boolean answer -/
noncomputable def tp_bz (c : Prop) : Int32 := @ite Int32 c (Classical.propDecidable c) (nI 1) (nI 0)
theorem tp_bz_t {c : Prop} (h : c) : tp_bz c = nI 1 := if_pos h
theorem tp_bz_f {c : Prop} (h : ¬ c) : tp_bz c = nI 0 := if_neg h
theorem tp_bz_or (c : Prop) : (c ∧ tp_bz c = nI 1) ∨ (¬ c ∧ tp_bz c = nI 0) := by
  rcases Classical.em c with h | h
  · exact Or.inl ⟨h, tp_bz_t h⟩
  · exact Or.inr ⟨h, tp_bz_f h⟩
theorem tp_bz_cg {c e : Prop} (h : c ↔ e) : tp_bz c = tp_bz e := by rw [propext h]
theorem tp_n10 : ¬ nI 1 = 0 := by decide
theorem tp_n11 : ¬ nI 1 = nI 0 := by decide
theorem tp_bz_1 {c : Prop} : tp_bz c = nI 1 ↔ c := by
  rcases tp_bz_or c with ⟨h, e⟩ | ⟨h, e⟩
  · rw [e]; simp [h]
  · rw [e]; exact ⟨fun q => absurd q.symm tp_n11, fun q => absurd q h⟩
theorem tp_bz_0 {c : Prop} : tp_bz c = 0 ↔ ¬ c := by
  rcases tp_bz_or c with ⟨h, e⟩ | ⟨h, e⟩
  · rw [e]; exact ⟨fun q => absurd q tp_n10, fun q => absurd h q⟩
  · rw [e]; exact ⟨fun _ => h, fun _ => nI_0⟩
theorem tp_bz_inj {c e : Prop} (h : tp_bz c = tp_bz e) : c ↔ e := by
  constructor
  · intro hc; rw [tp_bz_t hc] at h; exact tp_bz_1.mp h.symm
  · intro hc; rw [tp_bz_t hc] at h; exact tp_bz_1.mp h
theorem tp_bz_nar (c : Prop) : narrow .boolean (.int (tp_bz c)) = .int (tp_bz c) := by
  rcases tp_bz_or c with ⟨-, e⟩ | ⟨-, e⟩ <;> rw [e] <;> decide
/-- the low four bits, the low five -/
def tp_lo (v : Int32) : Nat := v.toBitVec.toNat % 16
def tp_l5 (v : Int32) : Nat := v.toBitVec.toNat % 32
theorem tp_lo_lt (v : Int32) : tp_lo v < 16 := Nat.mod_lt _ (by decide)
theorem tp_and15 (v : Int32) : v &&& nI 15 = nI (tp_lo v) := pk_and v 4 (by decide)
theorem tp_and31 (v : Int32) : v &&& nI 31 = nI (tp_l5 v) := pk_and v 5 (by decide)
theorem tp_l5_lt (v : Int32) : tp_l5 v < 32 := Nat.mod_lt _ (by decide)
theorem tp_lo_nI {x : Nat} (h : x < 16) : tp_lo (nI x) = x := by
  unfold tp_lo
  rw [pk_tn (by omega)]
  exact Nat.mod_eq_of_lt h
/-- counts -/
def tp_cn (f : Nat → Bool) : Nat → Nat
  | 0 => 0
  | n + 1 => tp_cn f n + (if f n then 1 else 0)
def tp_sm (F : Nat → Nat) : Nat → Nat
  | 0 => 0
  | n + 1 => tp_sm F n + F n
theorem tp_cn_cg {f g : Nat → Bool} : ∀ (n : Nat), (∀ y, y < n → f y = g y) → tp_cn f n = tp_cn g n
  | 0, _ => rfl
  | n + 1, h => by
    show tp_cn f n + _ = tp_cn g n + _
    rw [tp_cn_cg n (fun y hy => h y (by omega)), h n (by omega)]
theorem tp_sm_cg {f g : Nat → Nat} : ∀ (n : Nat), (∀ y, y < n → f y = g y) → tp_sm f n = tp_sm g n
  | 0, _ => rfl
  | n + 1, h => by
    show tp_sm f n + _ = tp_sm g n + _
    rw [tp_sm_cg n (fun y hy => h y (by omega)), h n (by omega)]
theorem tp_cn_le (f : Nat → Bool) : ∀ n, tp_cn f n ≤ n
  | 0 => Nat.le_refl _
  | n + 1 => by
    have := tp_cn_le f n
    show tp_cn f n + _ ≤ n + 1
    split <;> omega
theorem tp_cn_mono {f g : Nat → Bool} : ∀ (n : Nat), (∀ y, y < n → f y = true → g y = true) → tp_cn f n ≤ tp_cn g n
  | 0, _ => Nat.le_refl _
  | n + 1, h => by
    have h1 := tp_cn_mono n (fun y hy => h y (by omega))
    have h2 := h n (by omega)
    show tp_cn f n + _ ≤ tp_cn g n + _
    by_cases hf : f n = true
    · rw [if_pos hf, if_pos (h2 hf)]; omega
    · rw [if_neg hf]; omega
theorem tp_cn_strict {f g : Nat → Bool} : ∀ (n : Nat), (∀ y, y < n → f y = true → g y = true) → (∃ y, y < n ∧ f y = false ∧ g y = true) → tp_cn f n + 1 ≤ tp_cn g n
  | 0, _, ⟨y, hy, _⟩ => absurd hy (Nat.not_lt_zero _)
  | n + 1, h, ⟨y, hy, hf, hg⟩ => by
    have h1 := tp_cn_mono n (fun y hy => h y (by omega))
    have h2 := h n (by omega)
    show tp_cn f n + _ + 1 ≤ tp_cn g n + _
    by_cases hyn : y = n
    · subst hyn
      rw [if_pos hg, hf]; simp; omega
    · have h3 := tp_cn_strict n (fun y hy => h y (by omega)) ⟨y, by omega, hf, hg⟩
      by_cases hf : f n = true
      · rw [if_pos hf, if_pos (h2 hf)]; omega
      · rw [if_neg hf]; omega
theorem tp_cn_add {f g h : Nat → Bool} : ∀ (n : Nat), (∀ y, y < n → h y = (f y || g y)) → (∀ y, y < n → ¬ (f y = true ∧ g y = true)) → tp_cn h n = tp_cn f n + tp_cn g n
  | 0, _, _ => rfl
  | n + 1, h1, h2 => by
    have h3 := tp_cn_add n (fun y hy => h1 y (by omega)) (fun y hy => h2 y (by omega))
    have h4 := h1 n (by omega)
    have h5 := h2 n (by omega)
    show tp_cn h n + _ = tp_cn f n + _ + (tp_cn g n + _)
    rw [h3, h4]
    cases hf : f n <;> cases hg : g n <;> simp [hf, hg] at h5 ⊢ <;> omega
theorem tp_sm_le {F : Nat → Nat} {b : Nat} : ∀ n, (∀ i, i < n → F i ≤ b) → tp_sm F n ≤ n * b
  | 0, _ => by simp [tp_sm]
  | n + 1, h => by
    have h1 := tp_sm_le n (fun i hi => h i (by omega))
    have h2 := h n (by omega)
    show tp_sm F n + F n ≤ (n + 1) * b
    rw [Nat.add_mul]; omega
theorem tp_sm_mono {F G : Nat → Nat} : ∀ n, (∀ i, i < n → F i ≤ G i) → tp_sm F n ≤ tp_sm G n
  | 0, _ => Nat.le_refl _
  | n + 1, h => by
    have h1 := tp_sm_mono n (fun i hi => h i (by omega))
    have h2 := h n (by omega)
    show tp_sm F n + F n ≤ tp_sm G n + G n
    omega
theorem tp_sm_strict {F G : Nat → Nat} : ∀ n, (∀ i, i < n → F i ≤ G i) → (∃ i, i < n ∧ F i + 1 ≤ G i) → tp_sm F n + 1 ≤ tp_sm G n
  | 0, _, ⟨i, hi, _⟩ => absurd hi (Nat.not_lt_zero _)
  | n + 1, h, ⟨i, hi, hs⟩ => by
    have h1 := tp_sm_mono n (fun i hi => h i (by omega))
    have h2 := h n (by omega)
    show tp_sm F n + F n + 1 ≤ tp_sm G n + G n
    by_cases hin : i = n
    · subst hin; omega
    · have h3 := tp_sm_strict n (fun i hi => h i (by omega)) ⟨i, by omega, hs⟩
      omega
theorem tp_sm_add {F G K : Nat → Nat} : ∀ n, (∀ i, i < n → K i = F i + G i) → tp_sm K n = tp_sm F n + tp_sm G n
  | 0, _ => rfl
  | n + 1, h => by
    have h1 := tp_sm_add n (fun i hi => h i (by omega))
    have h2 := h n (by omega)
    show tp_sm K n + K n = tp_sm F n + F n + (tp_sm G n + G n)
    omega
/-- the number of states in a set of 4096 -/
def tp_tot (S : Nat → Nat → Bool) : Nat := tp_sm (fun i => tp_cn (S i) 16) 256
theorem tp_tot_le (S : Nat → Nat → Bool) : tp_tot S ≤ 4096 := tp_sm_le (b := 16) 256 (fun i _ => tp_cn_le (S i) 16)
theorem tp_tot_strict {S T : Nat → Nat → Bool} (h : ∀ i, i < 256 → ∀ y, y < 16 → S i y = true → T i y = true) (hs : ∃ i y, i < 256 ∧ y < 16 ∧ S i y = false ∧ T i y = true) : tp_tot S + 1 ≤ tp_tot T := by
  obtain ⟨i, y, hi, hy, h1, h2⟩ := hs
  exact tp_sm_strict 256 (fun i hi => tp_cn_mono 16 (h i hi)) ⟨i, hi, tp_cn_strict 16 (h i hi) ⟨y, hy, h1, h2⟩⟩
theorem tp_tot_mono {S T : Nat → Nat → Bool} (h : ∀ i, i < 256 → ∀ y, y < 16 → S i y = true → T i y = true) : tp_tot S ≤ tp_tot T := tp_sm_mono 256 (fun i hi => tp_cn_mono 16 (h i hi))
theorem tp_dm {p x : Nat} (hx : x < 16) : (p * 16 + x) / 16 = p ∧ (p * 16 + x) % 16 = x := by omega
end
section
/-! Z-KIT: an abstract state a : field number -> index -> value (a scalar field at index 0), one judgement tz_Z over it, a row an opcode -/
abbrev tz_S : Type := Nat → Nat → Int32
def tz_sw (a : tz_S) (k j : Nat) (v : Int32) : tz_S := fun k' => if k' = k then upd (a k) j v else a k'
theorem tz_sw_k (a : tz_S) (k j : Nat) (v : Int32) : tz_sw a k j v k = upd (a k) j v := if_pos rfl
theorem tz_sw_o (a : tz_S) {k k' : Nat} (j : Nat) (v : Int32) (h : k' ≠ k) : tz_sw a k j v k' = a k' := if_neg h
theorem tz_sw_kj (a : tz_S) (k j : Nat) (v : Int32) : tz_sw a k j v k j = v := by rw [tz_sw_k]; exact if_pos rfl
theorem tz_sw_kn (a : tz_S) (k : Nat) {j j' : Nat} (v : Int32) (h : j' ≠ j) : tz_sw a k j v k j' = a k j' := by rw [tz_sw_k]; exact if_neg h
/-- a class: list of classes, world, fields, name, field table, field types, number of fields, number of the class, shape (some n: an int array of n), array classes -/
abbrev tz_I : Type := List vw_C × ((Nat → Nat) → ClassId → tz_S → va_W) × ((Nat → Nat) → tz_S → List Value) × String × u_T × (Nat → FieldType) × Nat × Nat × (Nat → Option Nat) × (ClassId → List (ClassId × FieldType))
abbrev tz_cl (I : tz_I) : List vw_C := I.1
abbrev tz_ws (I : tz_I) : (Nat → Nat) → ClassId → tz_S → va_W := I.2.1
abbrev tz_fl (I : tz_I) : (Nat → Nat) → tz_S → List Value := I.2.2.1
abbrev tz_own (I : tz_I) : String := I.2.2.2.1
abbrev tz_T (I : tz_I) : u_T := I.2.2.2.2.1
abbrev tz_ty (I : tz_I) : Nat → FieldType := I.2.2.2.2.2.1
abbrev tz_N (I : tz_I) : Nat := I.2.2.2.2.2.2.1
abbrev tz_ci (I : tz_I) : Nat := I.2.2.2.2.2.2.2.1
abbrev tz_sh (I : tz_I) : Nat → Option Nat := I.2.2.2.2.2.2.2.2.1
abbrev tz_tys (I : tz_I) : ClassId → List (ClassId × FieldType) := I.2.2.2.2.2.2.2.2.2
/-- what a class's row of numbers must satisfy -/
def tz_ok (I : tz_I) : Prop :=
  (∀ w ∈ u_ws (tz_own I) (tz_T I) (tz_N I), w ∈ lw_all) ∧ (∀ k, k < tz_N I → parseFieldDescriptor (tz_T I k).2.2.1 = some (tz_ty I k)) ∧ (∀ a, a < tz_N I → ∀ b, b < tz_N I → a ≠ b → (tz_T I a).2.1 ≠ (tz_T I b).2.1) ∧ (tz_cl I)[tz_ci I]? = some (tz_own I, tz_T I, tz_N I) ∧
  (∀ (h : Nat → Nat) (d : ClassId) (a : tz_S), (tz_ws I h d a)[0]? = some (h 0, .inr (tz_ci I, tz_fl I h a))) ∧
  (∀ k n, tz_sh I k = some n → k < tz_N I ∧ n ≤ 256 ∧ (∀ (h : Nat → Nat) (a : tz_S), (tz_fl I h a)[k]? = some (.ref (h k))) ∧ ∃ q, ∀ (h : Nat → Nat) (d : ClassId) (a : tz_S), (tz_ws I h d a)[q]? = some (h k, .inl (d, n, .inl (a k))) ∧ ∀ j v, (tz_ws I h d a).set q (h k, .inl (d, n, .inl (upd (a k) j v))) = tz_ws I h d (tz_sw a k j v)) ∧
  (∀ k, k < tz_N I → tz_sh I k = none → (tz_T I k).2.2.2 = false ∧ ∀ (h : Nat → Nat) (d : ClassId) (a : tz_S), (tz_fl I h a)[k]? = some (.int (a k 0)) ∧ ∀ v, (tz_ws I h d a).set 0 (h 0, .inr (tz_ci I, (tz_fl I h a).set k (.int v))) = tz_ws I h d (tz_sw a k 0 v)) ∧
  (∀ d, tz_tys I d = [(d, .int)])
/-- the run: the machine, the world's places, the room -/
abbrev tz_E : Type := (Program × Launch × Env × State × MethodId × Array Value × List Frame × Method × Code) × (va_G × (Nat → Nat) × ClassId × (Nat → Prop)) × (Room × Nat × (State → Prop))
def tz_h (E : tz_E) : Nat → Nat := E.2.1.2.1
/-- the locals: all of them in order; none: not known -/
def tz_zl (ls : Array Slot) (nL : Nat) (lv : List (Option Value)) : Prop := ls.size = nL ∧ lv.length = nL ∧ lv_wf ls ∧ ∀ (i : Nat) (v : Value), lv[i]? = some (some v) → ls[i]? = some (.val v) ∧ v.category = 1
def tz_Z (I : tz_I) (E : tz_E) (pc : Nat) (lv : List (Option Value)) (st : List Value) (a : tz_S) : Prop :=
  ∀ (H : Heap) (locs : List Loc) (ls : Array Slot), va_P E.2.1.1 (tz_cl I) (tz_ws I E.2.1.2.1 E.2.1.2.2.1 a) H → va_D E.2.1.2.2.2 (tz_ws I E.2.1.2.1 E.2.1.2.2.1 a) → va_S E.2.1.2.2.2 E.1.2.2.2.1.heap H locs → tz_zl ls E.2.2.2.1 lv →
    W E.1.1 E.1.2.1 E.1.2.2.1 E.2.2.1 E.1.2.2.2.1 E.1.2.2.2.2.1 E.1.2.2.2.2.2.1 E.1.2.2.2.2.2.2.1 E.1.2.2.2.2.2.2.2.1 E.1.2.2.2.2.2.2.2.2 H locs 0 0 E.2.2.2.2 (F0 E.1.2.2.2.2.1 pc ls st)
def tz_rm (k : Nat) : Room := { frames := k, cells := 0, slots := 0, locals := 38 * k }
def tz_C (I : tz_I) (E : tz_E) (cc : ByteArray) (k : Nat) : Prop :=
  E.1.1.tables.exec = Jvm.exec ∧ E.1.2.2.2.2.2.2.2.2.code = cc ∧ E.1.2.2.2.2.2.2.2.2.maxLocals = E.2.2.2.1 ∧ E.1.2.2.2.1.vm.findClass (tz_own I) = some E.1.2.2.2.2.1.cls ∧ (∀ w ∈ lw_all, w.before E.1.2.2.2.2.2.1 E.1.2.2.2.1 = true) ∧ (∀ q, E.1.2.2.2.1.heap.size ≤ q → E.2.1.2.2.2 q) ∧ va_K E.2.1.1 (tz_cl I) (tz_tys I E.2.1.2.2.1) E.1.2.2.2.1 ∧ E.2.2.1 = tz_rm k
def tz_zL (lv : List (Option Value)) : List (Nat × Value) := (List.range lv.length).filterMap (fun i => match lv[i]? with | some (some v) => some (i, v) | _ => none)
theorem tz_zL_mem {lv : List (Option Value)} {i : Nat} {v : Value} (h : lv[i]? = some (some v)) : (i, v) ∈ tz_zL lv := List.mem_filterMap.mpr ⟨i, List.mem_range.mpr (List.getElem?_eq_some_iff.mp h).1, by simp [h]⟩
theorem tz_zL_of {lv : List (Option Value)} {q : Nat × Value} (h : q ∈ tz_zL lv) : lv[q.1]? = some (some q.2) := by
  obtain ⟨i, -, hi⟩ := List.mem_filterMap.mp h
  split at hi
  · cases hi; assumption
  · cases hi
theorem tz_zl_has {ls : Array Slot} {nL : Nat} {lv : List (Option Value)} (h : tz_zl ls nL lv) : lv_has ls nL (tz_zL lv) := ⟨h.1, h.2.2.1, fun q hq => (h.2.2.2 q.1 q.2 (tz_zL_of hq)).1⟩
theorem tz_zl_at {ls : Array Slot} {nL : Nat} {lv : List (Option Value)} (h : tz_zl ls nL lv) (i : Nat) {v : Value} (hv : lv[i]? = some (some v)) : ls[i]? = some (.val v) := (h.2.2.2 i v hv).1
theorem tz_zl_set {ls ls' : Array Slot} {nL : Nat} {lv : List (Option Value)} {i : Nat} {v : Value} (h : tz_zl ls nL lv) (hc : v.category = 1) (h' : lv_has ls' nL ((i, v) :: (tz_zL lv).filter (fun q => !(q.1 == i) && !(q.1 + 1 == i && q.2.category == 2)))) : tz_zl ls' nL (lv.set i (some v)) := by
  refine ⟨h'.1, by rw [List.length_set]; exact h.2.1, h'.2.1, fun j w hj => ?_⟩
  by_cases hji : j = i
  · subst hji
    rw [List.getElem?_set, if_pos rfl] at hj
    split at hj
    · cases hj
      exact ⟨h'.2.2 (j, v) List.mem_cons_self, hc⟩
    · cases hj
  · rw [List.getElem?_set, if_neg (Ne.symm hji)] at hj
    have hw := h.2.2.2 j w hj
    exact ⟨h'.2.2 (j, w) (List.mem_cons_of_mem _ (List.mem_filter.mpr ⟨tz_zL_mem hj, by simp [hji, hw.2]⟩)), hw.2⟩
theorem tz_zl_lt {ls : Array Slot} {nL : Nat} {lv : List (Option Value)} (h : tz_zl ls nL lv) {i : Nat} (hi : i < lv.length) : i < nL := h.2.1 ▸ hi
theorem tz_zl_less {ls : Array Slot} {nL : Nat} {lv lv' : List (Option Value)} (h : tz_zl ls nL lv) (hl : lv'.length = lv.length) (hs : ∀ (i : Nat) (v : Value), lv'[i]? = some (some v) → lv[i]? = some (some v)) : tz_zl ls nL lv' := ⟨h.1, hl.trans h.2.1, h.2.2.1, fun i v hv => h.2.2.2 i v (hs i v hv)⟩
section
variable {I : tz_I} {E : tz_E} {cc : ByteArray} {k pc : Nat} {lv : List (Option Value)} {st : List Value} {a : tz_S}
theorem tz_iconst (C : tz_C I E cc k) {n : Int} {v : Int32} (d : decode cc pc = .ok (.iconst n, 1)) (hv : Int32.ofInt n = v) (K : tz_Z I E (pc + 1) lv (.int v :: st) a) : tz_Z I E pc lv st a := fun H locs ls hP hD hS hl => lv_iconst C.1 C.2.1 d hv (K H locs ls hP hD hS hl)
theorem tz_bipush (C : tz_C I E cc k) {n : Int} {v : Int32} (d : decode cc pc = .ok (.bipush n, 2)) (hv : (Int8.ofInt n).toInt32 = v) (K : tz_Z I E (pc + 2) lv (.int v :: st) a) : tz_Z I E pc lv st a := fun H locs ls hP hD hS hl => lv_bipush C.1 C.2.1 d hv (K H locs ls hP hD hS hl)
theorem tz_sipush (C : tz_C I E cc k) {n : Int} {v : Int32} (d : decode cc pc = .ok (.sipush n, 3)) (hv : (Int16.ofInt n).toInt32 = v) (K : tz_Z I E (pc + 3) lv (.int v :: st) a) : tz_Z I E pc lv st a := fun H locs ls hP hD hS hl => lv_sipush C.1 C.2.1 d hv (K H locs ls hP hD hS hl)
theorem tz_ldc (C : tz_C I E cc k) {n : Nat} {v : Int32} (d : decode cc pc = .ok (.ldc n, 2)) (hv : Cond.constant (tz_own I) n v ∈ lw_all) (K : tz_Z I E (pc + 2) lv (.int v :: st) a) : tz_Z I E pc lv st a := fun H locs ls hP hD hS hl => lv_ldc C.1 C.2.1 C.2.2.2.1 (C.2.2.2.2.1 _ hv) d (K H locs ls hP hD hS hl)
theorem tz_top {x y : Int32} (h : x = y) (K : tz_Z I E pc lv (.int y :: st) a) : tz_Z I E pc lv (.int x :: st) a := h ▸ K
theorem tz_top2 {x y z : Int32} (h : x = y) (K : tz_Z I E pc lv (.int z :: .int y :: st) a) : tz_Z I E pc lv (.int z :: .int x :: st) a := h ▸ K
theorem tz_sta {a' : tz_S} (h : a = a') (K : tz_Z I E pc lv st a') : tz_Z I E pc lv st a := h ▸ K
theorem tz_iadd (C : tz_C I E cc k) {x y : Int32} (d : decode cc pc = .ok (.iadd, 1)) (K : tz_Z I E (pc + 1) lv (.int (x + y) :: st) a) : tz_Z I E pc lv (.int y :: .int x :: st) a := fun H locs ls hP hD hS hl => lv_iadd C.1 C.2.1 d (K H locs ls hP hD hS hl)
theorem tz_isub (C : tz_C I E cc k) {x y : Int32} (d : decode cc pc = .ok (.isub, 1)) (K : tz_Z I E (pc + 1) lv (.int (x - y) :: st) a) : tz_Z I E pc lv (.int y :: .int x :: st) a := fun H locs ls hP hD hS hl => lv_isub C.1 C.2.1 d (K H locs ls hP hD hS hl)
theorem tz_imul (C : tz_C I E cc k) {x y : Int32} (d : decode cc pc = .ok (.imul, 1)) (K : tz_Z I E (pc + 1) lv (.int (x * y) :: st) a) : tz_Z I E pc lv (.int y :: .int x :: st) a := fun H locs ls hP hD hS hl => lv_imul C.1 C.2.1 d (K H locs ls hP hD hS hl)
theorem tz_iand (C : tz_C I E cc k) {x y : Int32} (d : decode cc pc = .ok (.iand, 1)) (K : tz_Z I E (pc + 1) lv (.int (x &&& y) :: st) a) : tz_Z I E pc lv (.int y :: .int x :: st) a := fun H locs ls hP hD hS hl => lv_iand C.1 C.2.1 d (K H locs ls hP hD hS hl)
theorem tz_ior (C : tz_C I E cc k) {x y : Int32} (d : decode cc pc = .ok (.ior, 1)) (K : tz_Z I E (pc + 1) lv (.int (x ||| y) :: st) a) : tz_Z I E pc lv (.int y :: .int x :: st) a := fun H locs ls hP hD hS hl => lv_ior C.1 C.2.1 d (K H locs ls hP hD hS hl)
theorem tz_ixor (C : tz_C I E cc k) {x y : Int32} (d : decode cc pc = .ok (.ixor, 1)) (K : tz_Z I E (pc + 1) lv (.int (x ^^^ y) :: st) a) : tz_Z I E pc lv (.int y :: .int x :: st) a := fun H locs ls hP hD hS hl => lv_ixor C.1 C.2.1 d (K H locs ls hP hD hS hl)
theorem tz_ishl (C : tz_C I E cc k) {x y : Int32} (d : decode cc pc = .ok (.ishl, 1)) (K : tz_Z I E (pc + 1) lv (.int (x <<< (y &&& 31)) :: st) a) : tz_Z I E pc lv (.int y :: .int x :: st) a := fun H locs ls hP hD hS hl => lv_ishl C.1 C.2.1 d (K H locs ls hP hD hS hl)
theorem tz_ishr (C : tz_C I E cc k) {x y : Int32} (d : decode cc pc = .ok (.ishr, 1)) (K : tz_Z I E (pc + 1) lv (.int (x >>> (y &&& 31)) :: st) a) : tz_Z I E pc lv (.int y :: .int x :: st) a := fun H locs ls hP hD hS hl => lv_ishr C.1 C.2.1 d (K H locs ls hP hD hS hl)
theorem tz_iadd_n (C : tz_C I E cc k) {x y : Nat} (d : decode cc pc = .ok (.iadd, 1)) (K : tz_Z I E (pc + 1) lv (.int (nI (x + y)) :: st) a) : tz_Z I E pc lv (.int (nI y) :: .int (nI x) :: st) a := tz_iadd C d (by rw [nI_add]; exact K)
theorem tz_imul_n (C : tz_C I E cc k) {x y : Nat} (d : decode cc pc = .ok (.imul, 1)) (K : tz_Z I E (pc + 1) lv (.int (nI (x * y)) :: st) a) : tz_Z I E pc lv (.int (nI y) :: .int (nI x) :: st) a := tz_imul C d (by rw [pk_mul]; exact K)
theorem tz_isub_n (C : tz_C I E cc k) {x y : Nat} (d : decode cc pc = .ok (.isub, 1)) (h : y ≤ x) (K : tz_Z I E (pc + 1) lv (.int (nI (x - y)) :: st) a) : tz_Z I E pc lv (.int (nI y) :: .int (nI x) :: st) a := tz_isub C d (by rw [pk_sub h]; exact K)
theorem tz_idiv (C : tz_C I E cc k) {x y : Int32} (d : decode cc pc = .ok (.idiv, 1)) (hy : ¬ y = 0) (K : tz_Z I E (pc + 1) lv (.int (x / y) :: st) a) : tz_Z I E pc lv (.int y :: .int x :: st) a := fun H locs ls hP hD hS hl => lv_idiv C.1 C.2.1 d hy (K H locs ls hP hD hS hl)
theorem tz_irem (C : tz_C I E cc k) {x y : Int32} (d : decode cc pc = .ok (.irem, 1)) (hy : ¬ y = 0) (K : tz_Z I E (pc + 1) lv (.int (x - x / y * y) :: st) a) : tz_Z I E pc lv (.int y :: .int x :: st) a := fun H locs ls hP hD hS hl => lv_irem C.1 C.2.1 d hy (K H locs ls hP hD hS hl)
theorem tz_idiv_n (C : tz_C I E cc k) {x y : Nat} (d : decode cc pc = .ok (.idiv, 1)) (K : tz_Z I E (pc + 1) lv (.int (nI (x / y)) :: st) a) (hx : x < 2 ^ 31 := by omega) (h0 : 0 < y := by omega) (hy : y < 2 ^ 31 := by omega) : tz_Z I E pc lv (.int (nI y) :: .int (nI x) :: st) a := tz_idiv C d (nI_ne0 h0 hy) (by rw [pk_div hx h0 hy]; exact K)
theorem tz_irem_n (C : tz_C I E cc k) {x y : Nat} (d : decode cc pc = .ok (.irem, 1)) (K : tz_Z I E (pc + 1) lv (.int (nI (x % y)) :: st) a) (hx : x < 2 ^ 31 := by omega) (h0 : 0 < y := by omega) (hy : y < 2 ^ 31 := by omega) : tz_Z I E pc lv (.int (nI y) :: .int (nI x) :: st) a := tz_irem C d (nI_ne0 h0 hy) (by rw [pk_rem hx h0 hy]; exact K)
theorem tz_dup (C : tz_C I E cc k) {v : Value} (d : decode cc pc = .ok (.dup, 1)) (hv : v.category = 1) (K : tz_Z I E (pc + 1) lv (v :: v :: st) a) : tz_Z I E pc lv (v :: st) a := fun H locs ls hP hD hS hl => lv_dup C.1 C.2.1 d hv (K H locs ls hP hD hS hl)
theorem tz_dup2 (C : tz_C I E cc k) {v w : Value} (d : decode cc pc = .ok (.dup2, 1)) (hv : v.category = 1) (hw : w.category = 1) (K : tz_Z I E (pc + 1) lv (v :: w :: v :: w :: st) a) : tz_Z I E pc lv (v :: w :: st) a := fun H locs ls hP hD hS hl => lv_dup2_11 C.1 C.2.1 d hv hw (K H locs ls hP hD hS hl)
theorem tz_goto (C : tz_C I E cc k) {off : Int} {tgt : Nat} (d : decode cc pc = .ok (.goto off, 3)) (ht : (pc : Int) + off = (tgt : Int)) (K : tz_Z I E tgt lv st a) : tz_Z I E pc lv st a := fun H locs ls hP hD hS hl => lv_goto C.1 C.2.1 d ht (K H locs ls hP hD hS hl)
theorem tz_if_eq (C : tz_C I E cc k) {x : Int32} {off : Int} {tgt : Nat} (d : decode cc pc = .ok (.ifCond .eq off, 3)) (ht : (pc : Int) + off = (tgt : Int)) (kt : x = 0 → tz_Z I E tgt lv st a) (kf : ¬ x = 0 → tz_Z I E (pc + 3) lv st a) : tz_Z I E pc lv (.int x :: st) a := fun H locs ls hP hD hS hl => lv_if_eq C.1 C.2.1 d ht (fun q => kt q H locs ls hP hD hS hl) (fun q => kf q H locs ls hP hD hS hl)
theorem tz_if_ne (C : tz_C I E cc k) {x : Int32} {off : Int} {tgt : Nat} (d : decode cc pc = .ok (.ifCond .ne off, 3)) (ht : (pc : Int) + off = (tgt : Int)) (kt : ¬ x = 0 → tz_Z I E tgt lv st a) (kf : x = 0 → tz_Z I E (pc + 3) lv st a) : tz_Z I E pc lv (.int x :: st) a := fun H locs ls hP hD hS hl => lv_if_ne C.1 C.2.1 d ht (fun q => kt q H locs ls hP hD hS hl) (fun q => kf q H locs ls hP hD hS hl)
theorem tz_if_lt (C : tz_C I E cc k) {x : Int32} {off : Int} {tgt : Nat} (d : decode cc pc = .ok (.ifCond .lt off, 3)) (ht : (pc : Int) + off = (tgt : Int)) (kt : x < 0 → tz_Z I E tgt lv st a) (kf : ¬ x < 0 → tz_Z I E (pc + 3) lv st a) : tz_Z I E pc lv (.int x :: st) a := fun H locs ls hP hD hS hl => lv_if_lt C.1 C.2.1 d ht (fun q => kt q H locs ls hP hD hS hl) (fun q => kf q H locs ls hP hD hS hl)
theorem tz_if_ge (C : tz_C I E cc k) {x : Int32} {off : Int} {tgt : Nat} (d : decode cc pc = .ok (.ifCond .ge off, 3)) (ht : (pc : Int) + off = (tgt : Int)) (kt : 0 ≤ x → tz_Z I E tgt lv st a) (kf : ¬ 0 ≤ x → tz_Z I E (pc + 3) lv st a) : tz_Z I E pc lv (.int x :: st) a := fun H locs ls hP hD hS hl => lv_if_ge C.1 C.2.1 d ht (fun q => kt q H locs ls hP hD hS hl) (fun q => kf q H locs ls hP hD hS hl)
theorem tz_if_gt (C : tz_C I E cc k) {x : Int32} {off : Int} {tgt : Nat} (d : decode cc pc = .ok (.ifCond .gt off, 3)) (ht : (pc : Int) + off = (tgt : Int)) (kt : 0 < x → tz_Z I E tgt lv st a) (kf : ¬ 0 < x → tz_Z I E (pc + 3) lv st a) : tz_Z I E pc lv (.int x :: st) a := fun H locs ls hP hD hS hl => lv_if_gt C.1 C.2.1 d ht (fun q => kt q H locs ls hP hD hS hl) (fun q => kf q H locs ls hP hD hS hl)
theorem tz_if_le (C : tz_C I E cc k) {x : Int32} {off : Int} {tgt : Nat} (d : decode cc pc = .ok (.ifCond .le off, 3)) (ht : (pc : Int) + off = (tgt : Int)) (kt : x ≤ 0 → tz_Z I E tgt lv st a) (kf : ¬ x ≤ 0 → tz_Z I E (pc + 3) lv st a) : tz_Z I E pc lv (.int x :: st) a := fun H locs ls hP hD hS hl => lv_if_le C.1 C.2.1 d ht (fun q => kt q H locs ls hP hD hS hl) (fun q => kf q H locs ls hP hD hS hl)
theorem tz_icmp_eq (C : tz_C I E cc k) {x y : Int32} {off : Int} {tgt : Nat} (d : decode cc pc = .ok (.if_icmp .eq off, 3)) (ht : (pc : Int) + off = (tgt : Int)) (kt : x = y → tz_Z I E tgt lv st a) (kf : ¬ x = y → tz_Z I E (pc + 3) lv st a) : tz_Z I E pc lv (.int y :: .int x :: st) a := fun H locs ls hP hD hS hl => lv_icmp_eq C.1 C.2.1 d ht (fun q => kt q H locs ls hP hD hS hl) (fun q => kf q H locs ls hP hD hS hl)
theorem tz_icmp_ne (C : tz_C I E cc k) {x y : Int32} {off : Int} {tgt : Nat} (d : decode cc pc = .ok (.if_icmp .ne off, 3)) (ht : (pc : Int) + off = (tgt : Int)) (kt : ¬ x = y → tz_Z I E tgt lv st a) (kf : x = y → tz_Z I E (pc + 3) lv st a) : tz_Z I E pc lv (.int y :: .int x :: st) a := fun H locs ls hP hD hS hl => lv_icmp_ne C.1 C.2.1 d ht (fun q => kt q H locs ls hP hD hS hl) (fun q => kf q H locs ls hP hD hS hl)
theorem tz_icmp_lt (C : tz_C I E cc k) {x y : Int32} {off : Int} {tgt : Nat} (d : decode cc pc = .ok (.if_icmp .lt off, 3)) (ht : (pc : Int) + off = (tgt : Int)) (kt : x < y → tz_Z I E tgt lv st a) (kf : ¬ x < y → tz_Z I E (pc + 3) lv st a) : tz_Z I E pc lv (.int y :: .int x :: st) a := fun H locs ls hP hD hS hl => lv_icmp_lt C.1 C.2.1 d ht (fun q => kt q H locs ls hP hD hS hl) (fun q => kf q H locs ls hP hD hS hl)
theorem tz_icmp_ge (C : tz_C I E cc k) {x y : Int32} {off : Int} {tgt : Nat} (d : decode cc pc = .ok (.if_icmp .ge off, 3)) (ht : (pc : Int) + off = (tgt : Int)) (kt : y ≤ x → tz_Z I E tgt lv st a) (kf : ¬ y ≤ x → tz_Z I E (pc + 3) lv st a) : tz_Z I E pc lv (.int y :: .int x :: st) a := fun H locs ls hP hD hS hl => lv_icmp_ge C.1 C.2.1 d ht (fun q => kt q H locs ls hP hD hS hl) (fun q => kf q H locs ls hP hD hS hl)
theorem tz_icmp_gt (C : tz_C I E cc k) {x y : Int32} {off : Int} {tgt : Nat} (d : decode cc pc = .ok (.if_icmp .gt off, 3)) (ht : (pc : Int) + off = (tgt : Int)) (kt : y < x → tz_Z I E tgt lv st a) (kf : ¬ y < x → tz_Z I E (pc + 3) lv st a) : tz_Z I E pc lv (.int y :: .int x :: st) a := fun H locs ls hP hD hS hl => lv_icmp_gt C.1 C.2.1 d ht (fun q => kt q H locs ls hP hD hS hl) (fun q => kf q H locs ls hP hD hS hl)
theorem tz_icmp_le (C : tz_C I E cc k) {x y : Int32} {off : Int} {tgt : Nat} (d : decode cc pc = .ok (.if_icmp .le off, 3)) (ht : (pc : Int) + off = (tgt : Int)) (kt : x ≤ y → tz_Z I E tgt lv st a) (kf : ¬ x ≤ y → tz_Z I E (pc + 3) lv st a) : tz_Z I E pc lv (.int y :: .int x :: st) a := fun H locs ls hP hD hS hl => lv_icmp_le C.1 C.2.1 d ht (fun q => kt q H locs ls hP hD hS hl) (fun q => kf q H locs ls hP hD hS hl)
theorem tz_icmp_eq_n (C : tz_C I E cc k) {x y : Nat} {off : Int} {tgt : Nat} (d : decode cc pc = .ok (.if_icmp .eq off, 3)) (ht : (pc : Int) + off = (tgt : Int)) (kt : x = y → tz_Z I E tgt lv st a) (kf : ¬ x = y → tz_Z I E (pc + 3) lv st a) (hx : x < 2 ^ 31 := by omega) (hy : y < 2 ^ 31 := by omega) : tz_Z I E pc lv (.int (nI y) :: .int (nI x) :: st) a := tz_icmp_eq C d ht (fun q => kt ((nI_eq hx hy).mp q)) (fun q => kf (fun r => q ((nI_eq hx hy).mpr r)))
theorem tz_icmp_ne_n (C : tz_C I E cc k) {x y : Nat} {off : Int} {tgt : Nat} (d : decode cc pc = .ok (.if_icmp .ne off, 3)) (ht : (pc : Int) + off = (tgt : Int)) (kt : ¬ x = y → tz_Z I E tgt lv st a) (kf : x = y → tz_Z I E (pc + 3) lv st a) (hx : x < 2 ^ 31 := by omega) (hy : y < 2 ^ 31 := by omega) : tz_Z I E pc lv (.int (nI y) :: .int (nI x) :: st) a := tz_icmp_ne C d ht (fun q => kt (fun r => q ((nI_eq hx hy).mpr r))) (fun q => kf ((nI_eq hx hy).mp q))
theorem tz_icmp_lt_n (C : tz_C I E cc k) {x y : Nat} {off : Int} {tgt : Nat} (d : decode cc pc = .ok (.if_icmp .lt off, 3)) (ht : (pc : Int) + off = (tgt : Int)) (kt : x < y → tz_Z I E tgt lv st a) (kf : y ≤ x → tz_Z I E (pc + 3) lv st a) (hx : x < 2 ^ 31 := by omega) (hy : y < 2 ^ 31 := by omega) : tz_Z I E pc lv (.int (nI y) :: .int (nI x) :: st) a := tz_icmp_lt C d ht (fun q => kt ((nI_ltI hx hy).mp q)) (fun q => kf (Nat.not_lt.mp (fun r => q ((nI_ltI hx hy).mpr r))))
theorem tz_icmp_ge_n (C : tz_C I E cc k) {x y : Nat} {off : Int} {tgt : Nat} (d : decode cc pc = .ok (.if_icmp .ge off, 3)) (ht : (pc : Int) + off = (tgt : Int)) (kt : y ≤ x → tz_Z I E tgt lv st a) (kf : x < y → tz_Z I E (pc + 3) lv st a) (hx : x < 2 ^ 31 := by omega) (hy : y < 2 ^ 31 := by omega) : tz_Z I E pc lv (.int (nI y) :: .int (nI x) :: st) a := tz_icmp_ge C d ht (fun q => kt ((nI_leI hy hx).mp q)) (fun q => kf (Nat.not_le.mp (fun r => q ((nI_leI hy hx).mpr r))))
theorem tz_icmp_gt_n (C : tz_C I E cc k) {x y : Nat} {off : Int} {tgt : Nat} (d : decode cc pc = .ok (.if_icmp .gt off, 3)) (ht : (pc : Int) + off = (tgt : Int)) (kt : y < x → tz_Z I E tgt lv st a) (kf : x ≤ y → tz_Z I E (pc + 3) lv st a) (hx : x < 2 ^ 31 := by omega) (hy : y < 2 ^ 31 := by omega) : tz_Z I E pc lv (.int (nI y) :: .int (nI x) :: st) a := tz_icmp_gt C d ht (fun q => kt ((nI_ltI hy hx).mp q)) (fun q => kf (Nat.not_lt.mp (fun r => q ((nI_ltI hy hx).mpr r))))
theorem tz_icmp_le_n (C : tz_C I E cc k) {x y : Nat} {off : Int} {tgt : Nat} (d : decode cc pc = .ok (.if_icmp .le off, 3)) (ht : (pc : Int) + off = (tgt : Int)) (kt : x ≤ y → tz_Z I E tgt lv st a) (kf : y < x → tz_Z I E (pc + 3) lv st a) (hx : x < 2 ^ 31 := by omega) (hy : y < 2 ^ 31 := by omega) : tz_Z I E pc lv (.int (nI y) :: .int (nI x) :: st) a := tz_icmp_le C d ht (fun q => kt ((nI_leI hx hy).mp q)) (fun q => kf (Nat.not_le.mp (fun r => q ((nI_leI hx hy).mpr r))))
theorem tz_iload_0 (C : tz_C I E cc k) {r : List (Option Value)} {x : Int32} (d : decode cc pc = .ok (.iload_n 0, 1)) (K : tz_Z I E (pc + 1) (some (.int x) :: r) (.int x :: st) a) : tz_Z I E pc (some (.int x) :: r) st a := fun H locs ls hP hD hS hl => lv_iload_n C.1 C.2.1 d rfl (tz_zl_at hl 0 rfl) (K H locs ls hP hD hS hl)
theorem tz_aload_0 (C : tz_C I E cc k) {r : List (Option Value)} {x : Nat} (d : decode cc pc = .ok (.aload_n 0, 1)) (K : tz_Z I E (pc + 1) (some (.ref x) :: r) (.ref x :: st) a) : tz_Z I E pc (some (.ref x) :: r) st a := fun H locs ls hP hD hS hl => lv_aload_n C.1 C.2.1 d rfl (tz_zl_at hl 0 rfl) (K H locs ls hP hD hS hl)
theorem tz_istore_0 (C : tz_C I E cc k) {v : Option Value} {r : List (Option Value)} {x : Int32} (d : decode cc pc = .ok (.istore_n 0, 1)) (K : tz_Z I E (pc + 1) (some (.int x) :: r) st a) : tz_Z I E pc (v :: r) (.int x :: st) a := fun H locs ls hP hD hS hl => lv_istore_n (i := 0) C.1 C.2.1 d rfl (tz_zl_has hl) (tz_zl_lt hl (by simp only [List.length_cons]; omega)) rfl (fun ls' h' => K H locs ls' hP hD hS (tz_zl_set hl rfl h'))
theorem tz_iinc_0 (C : tz_C I E cc k) {r : List (Option Value)} {x y : Int32} {n : Int} (d : decode cc pc = .ok (.iinc 0 n, 3)) (hv : x + Int32.ofInt n = y) (K : tz_Z I E (pc + 3) (some (.int y) :: r) st a) : tz_Z I E pc (some (.int x) :: r) st a := by
  intro H locs ls hP hD hS hl
  obtain ⟨q, hq⟩ := List.getElem?_of_mem (tz_zL_mem (lv := (some (.int x) :: r)) (i := 0) (v := .int x) rfl)
  exact lv_iinc (i := 0) C.1 C.2.1 d (tz_zl_has hl) hq hv (tz_zl_lt hl (by simp only [List.length_cons]; omega)) rfl (fun ls' h' => K H locs ls' hP hD hS (tz_zl_set hl rfl h'))
theorem tz_iinc_0_n (C : tz_C I E cc k) {r : List (Option Value)} {x : Nat} (d : decode cc pc = .ok (.iinc 0 1, 3)) (K : tz_Z I E (pc + 3) (some (.int (nI (x + 1))) :: r) st a) : tz_Z I E pc (some (.int (nI x)) :: r) st a := tz_iinc_0 C d (nI_1 x) K
theorem tz_forget_0 {v : Option Value} {r : List (Option Value)} (K : tz_Z I E pc (none :: r) st a) : tz_Z I E pc (v :: r) st a := fun H locs ls hP hD hS hl => K H locs ls hP hD hS (tz_zl_less hl rfl (fun j w hj => by
  by_cases hji : j = 0
  · subst hji; cases hj
  · have h := List.getElem?_set (l := (v :: r)) (i := 0) (j := j) (a := none)
    rw [if_neg (Ne.symm hji)] at h
    exact h.symm.trans hj))
theorem tz_iload_1 (C : tz_C I E cc k) {v0 : Option Value} {r : List (Option Value)} {x : Int32} (d : decode cc pc = .ok (.iload_n 1, 1)) (K : tz_Z I E (pc + 1) (v0 :: some (.int x) :: r) (.int x :: st) a) : tz_Z I E pc (v0 :: some (.int x) :: r) st a := fun H locs ls hP hD hS hl => lv_iload_n C.1 C.2.1 d rfl (tz_zl_at hl 1 rfl) (K H locs ls hP hD hS hl)
theorem tz_aload_1 (C : tz_C I E cc k) {v0 : Option Value} {r : List (Option Value)} {x : Nat} (d : decode cc pc = .ok (.aload_n 1, 1)) (K : tz_Z I E (pc + 1) (v0 :: some (.ref x) :: r) (.ref x :: st) a) : tz_Z I E pc (v0 :: some (.ref x) :: r) st a := fun H locs ls hP hD hS hl => lv_aload_n C.1 C.2.1 d rfl (tz_zl_at hl 1 rfl) (K H locs ls hP hD hS hl)
theorem tz_istore_1 (C : tz_C I E cc k) {v0 : Option Value} {v : Option Value} {r : List (Option Value)} {x : Int32} (d : decode cc pc = .ok (.istore_n 1, 1)) (K : tz_Z I E (pc + 1) (v0 :: some (.int x) :: r) st a) : tz_Z I E pc (v0 :: v :: r) (.int x :: st) a := fun H locs ls hP hD hS hl => lv_istore_n (i := 1) C.1 C.2.1 d rfl (tz_zl_has hl) (tz_zl_lt hl (by simp only [List.length_cons]; omega)) rfl (fun ls' h' => K H locs ls' hP hD hS (tz_zl_set hl rfl h'))
theorem tz_iinc_1 (C : tz_C I E cc k) {v0 : Option Value} {r : List (Option Value)} {x y : Int32} {n : Int} (d : decode cc pc = .ok (.iinc 1 n, 3)) (hv : x + Int32.ofInt n = y) (K : tz_Z I E (pc + 3) (v0 :: some (.int y) :: r) st a) : tz_Z I E pc (v0 :: some (.int x) :: r) st a := by
  intro H locs ls hP hD hS hl
  obtain ⟨q, hq⟩ := List.getElem?_of_mem (tz_zL_mem (lv := (v0 :: some (.int x) :: r)) (i := 1) (v := .int x) rfl)
  exact lv_iinc (i := 1) C.1 C.2.1 d (tz_zl_has hl) hq hv (tz_zl_lt hl (by simp only [List.length_cons]; omega)) rfl (fun ls' h' => K H locs ls' hP hD hS (tz_zl_set hl rfl h'))
theorem tz_iinc_1_n (C : tz_C I E cc k) {v0 : Option Value} {r : List (Option Value)} {x : Nat} (d : decode cc pc = .ok (.iinc 1 1, 3)) (K : tz_Z I E (pc + 3) (v0 :: some (.int (nI (x + 1))) :: r) st a) : tz_Z I E pc (v0 :: some (.int (nI x)) :: r) st a := tz_iinc_1 C d (nI_1 x) K
theorem tz_forget_1 {v0 : Option Value} {v : Option Value} {r : List (Option Value)} (K : tz_Z I E pc (v0 :: none :: r) st a) : tz_Z I E pc (v0 :: v :: r) st a := fun H locs ls hP hD hS hl => K H locs ls hP hD hS (tz_zl_less hl rfl (fun j w hj => by
  by_cases hji : j = 1
  · subst hji; cases hj
  · have h := List.getElem?_set (l := (v0 :: v :: r)) (i := 1) (j := j) (a := none)
    rw [if_neg (Ne.symm hji)] at h
    exact h.symm.trans hj))
theorem tz_iload_2 (C : tz_C I E cc k) {v0 v1 : Option Value} {r : List (Option Value)} {x : Int32} (d : decode cc pc = .ok (.iload_n 2, 1)) (K : tz_Z I E (pc + 1) (v0 :: v1 :: some (.int x) :: r) (.int x :: st) a) : tz_Z I E pc (v0 :: v1 :: some (.int x) :: r) st a := fun H locs ls hP hD hS hl => lv_iload_n C.1 C.2.1 d rfl (tz_zl_at hl 2 rfl) (K H locs ls hP hD hS hl)
theorem tz_aload_2 (C : tz_C I E cc k) {v0 v1 : Option Value} {r : List (Option Value)} {x : Nat} (d : decode cc pc = .ok (.aload_n 2, 1)) (K : tz_Z I E (pc + 1) (v0 :: v1 :: some (.ref x) :: r) (.ref x :: st) a) : tz_Z I E pc (v0 :: v1 :: some (.ref x) :: r) st a := fun H locs ls hP hD hS hl => lv_aload_n C.1 C.2.1 d rfl (tz_zl_at hl 2 rfl) (K H locs ls hP hD hS hl)
theorem tz_istore_2 (C : tz_C I E cc k) {v0 v1 : Option Value} {v : Option Value} {r : List (Option Value)} {x : Int32} (d : decode cc pc = .ok (.istore_n 2, 1)) (K : tz_Z I E (pc + 1) (v0 :: v1 :: some (.int x) :: r) st a) : tz_Z I E pc (v0 :: v1 :: v :: r) (.int x :: st) a := fun H locs ls hP hD hS hl => lv_istore_n (i := 2) C.1 C.2.1 d rfl (tz_zl_has hl) (tz_zl_lt hl (by simp only [List.length_cons]; omega)) rfl (fun ls' h' => K H locs ls' hP hD hS (tz_zl_set hl rfl h'))
theorem tz_iinc_2 (C : tz_C I E cc k) {v0 v1 : Option Value} {r : List (Option Value)} {x y : Int32} {n : Int} (d : decode cc pc = .ok (.iinc 2 n, 3)) (hv : x + Int32.ofInt n = y) (K : tz_Z I E (pc + 3) (v0 :: v1 :: some (.int y) :: r) st a) : tz_Z I E pc (v0 :: v1 :: some (.int x) :: r) st a := by
  intro H locs ls hP hD hS hl
  obtain ⟨q, hq⟩ := List.getElem?_of_mem (tz_zL_mem (lv := (v0 :: v1 :: some (.int x) :: r)) (i := 2) (v := .int x) rfl)
  exact lv_iinc (i := 2) C.1 C.2.1 d (tz_zl_has hl) hq hv (tz_zl_lt hl (by simp only [List.length_cons]; omega)) rfl (fun ls' h' => K H locs ls' hP hD hS (tz_zl_set hl rfl h'))
theorem tz_iinc_2_n (C : tz_C I E cc k) {v0 v1 : Option Value} {r : List (Option Value)} {x : Nat} (d : decode cc pc = .ok (.iinc 2 1, 3)) (K : tz_Z I E (pc + 3) (v0 :: v1 :: some (.int (nI (x + 1))) :: r) st a) : tz_Z I E pc (v0 :: v1 :: some (.int (nI x)) :: r) st a := tz_iinc_2 C d (nI_1 x) K
theorem tz_forget_2 {v0 v1 : Option Value} {v : Option Value} {r : List (Option Value)} (K : tz_Z I E pc (v0 :: v1 :: none :: r) st a) : tz_Z I E pc (v0 :: v1 :: v :: r) st a := fun H locs ls hP hD hS hl => K H locs ls hP hD hS (tz_zl_less hl rfl (fun j w hj => by
  by_cases hji : j = 2
  · subst hji; cases hj
  · have h := List.getElem?_set (l := (v0 :: v1 :: v :: r)) (i := 2) (j := j) (a := none)
    rw [if_neg (Ne.symm hji)] at h
    exact h.symm.trans hj))
theorem tz_iload_3 (C : tz_C I E cc k) {v0 v1 v2 : Option Value} {r : List (Option Value)} {x : Int32} (d : decode cc pc = .ok (.iload_n 3, 1)) (K : tz_Z I E (pc + 1) (v0 :: v1 :: v2 :: some (.int x) :: r) (.int x :: st) a) : tz_Z I E pc (v0 :: v1 :: v2 :: some (.int x) :: r) st a := fun H locs ls hP hD hS hl => lv_iload_n C.1 C.2.1 d rfl (tz_zl_at hl 3 rfl) (K H locs ls hP hD hS hl)
theorem tz_aload_3 (C : tz_C I E cc k) {v0 v1 v2 : Option Value} {r : List (Option Value)} {x : Nat} (d : decode cc pc = .ok (.aload_n 3, 1)) (K : tz_Z I E (pc + 1) (v0 :: v1 :: v2 :: some (.ref x) :: r) (.ref x :: st) a) : tz_Z I E pc (v0 :: v1 :: v2 :: some (.ref x) :: r) st a := fun H locs ls hP hD hS hl => lv_aload_n C.1 C.2.1 d rfl (tz_zl_at hl 3 rfl) (K H locs ls hP hD hS hl)
theorem tz_istore_3 (C : tz_C I E cc k) {v0 v1 v2 : Option Value} {v : Option Value} {r : List (Option Value)} {x : Int32} (d : decode cc pc = .ok (.istore_n 3, 1)) (K : tz_Z I E (pc + 1) (v0 :: v1 :: v2 :: some (.int x) :: r) st a) : tz_Z I E pc (v0 :: v1 :: v2 :: v :: r) (.int x :: st) a := fun H locs ls hP hD hS hl => lv_istore_n (i := 3) C.1 C.2.1 d rfl (tz_zl_has hl) (tz_zl_lt hl (by simp only [List.length_cons]; omega)) rfl (fun ls' h' => K H locs ls' hP hD hS (tz_zl_set hl rfl h'))
theorem tz_iinc_3 (C : tz_C I E cc k) {v0 v1 v2 : Option Value} {r : List (Option Value)} {x y : Int32} {n : Int} (d : decode cc pc = .ok (.iinc 3 n, 3)) (hv : x + Int32.ofInt n = y) (K : tz_Z I E (pc + 3) (v0 :: v1 :: v2 :: some (.int y) :: r) st a) : tz_Z I E pc (v0 :: v1 :: v2 :: some (.int x) :: r) st a := by
  intro H locs ls hP hD hS hl
  obtain ⟨q, hq⟩ := List.getElem?_of_mem (tz_zL_mem (lv := (v0 :: v1 :: v2 :: some (.int x) :: r)) (i := 3) (v := .int x) rfl)
  exact lv_iinc (i := 3) C.1 C.2.1 d (tz_zl_has hl) hq hv (tz_zl_lt hl (by simp only [List.length_cons]; omega)) rfl (fun ls' h' => K H locs ls' hP hD hS (tz_zl_set hl rfl h'))
theorem tz_iinc_3_n (C : tz_C I E cc k) {v0 v1 v2 : Option Value} {r : List (Option Value)} {x : Nat} (d : decode cc pc = .ok (.iinc 3 1, 3)) (K : tz_Z I E (pc + 3) (v0 :: v1 :: v2 :: some (.int (nI (x + 1))) :: r) st a) : tz_Z I E pc (v0 :: v1 :: v2 :: some (.int (nI x)) :: r) st a := tz_iinc_3 C d (nI_1 x) K
theorem tz_forget_3 {v0 v1 v2 : Option Value} {v : Option Value} {r : List (Option Value)} (K : tz_Z I E pc (v0 :: v1 :: v2 :: none :: r) st a) : tz_Z I E pc (v0 :: v1 :: v2 :: v :: r) st a := fun H locs ls hP hD hS hl => K H locs ls hP hD hS (tz_zl_less hl rfl (fun j w hj => by
  by_cases hji : j = 3
  · subst hji; cases hj
  · have h := List.getElem?_set (l := (v0 :: v1 :: v2 :: v :: r)) (i := 3) (j := j) (a := none)
    rw [if_neg (Ne.symm hji)] at h
    exact h.symm.trans hj))
theorem tz_iload_4 (C : tz_C I E cc k) {v0 v1 v2 v3 : Option Value} {r : List (Option Value)} {x : Int32} (d : decode cc pc = .ok (.iload 4, 2)) (K : tz_Z I E (pc + 2) (v0 :: v1 :: v2 :: v3 :: some (.int x) :: r) (.int x :: st) a) : tz_Z I E pc (v0 :: v1 :: v2 :: v3 :: some (.int x) :: r) st a := fun H locs ls hP hD hS hl => lv_iload C.1 C.2.1 d (tz_zl_at hl 4 rfl) (K H locs ls hP hD hS hl)
theorem tz_istore_4 (C : tz_C I E cc k) {v0 v1 v2 v3 : Option Value} {v : Option Value} {r : List (Option Value)} {x : Int32} (d : decode cc pc = .ok (.istore 4, 2)) (K : tz_Z I E (pc + 2) (v0 :: v1 :: v2 :: v3 :: some (.int x) :: r) st a) : tz_Z I E pc (v0 :: v1 :: v2 :: v3 :: v :: r) (.int x :: st) a := fun H locs ls hP hD hS hl => lv_istore (i := 4) C.1 C.2.1 d (tz_zl_has hl) (tz_zl_lt hl (by simp only [List.length_cons]; omega)) rfl (fun ls' h' => K H locs ls' hP hD hS (tz_zl_set hl rfl h'))
theorem tz_iinc_4 (C : tz_C I E cc k) {v0 v1 v2 v3 : Option Value} {r : List (Option Value)} {x y : Int32} {n : Int} (d : decode cc pc = .ok (.iinc 4 n, 3)) (hv : x + Int32.ofInt n = y) (K : tz_Z I E (pc + 3) (v0 :: v1 :: v2 :: v3 :: some (.int y) :: r) st a) : tz_Z I E pc (v0 :: v1 :: v2 :: v3 :: some (.int x) :: r) st a := by
  intro H locs ls hP hD hS hl
  obtain ⟨q, hq⟩ := List.getElem?_of_mem (tz_zL_mem (lv := (v0 :: v1 :: v2 :: v3 :: some (.int x) :: r)) (i := 4) (v := .int x) rfl)
  exact lv_iinc (i := 4) C.1 C.2.1 d (tz_zl_has hl) hq hv (tz_zl_lt hl (by simp only [List.length_cons]; omega)) rfl (fun ls' h' => K H locs ls' hP hD hS (tz_zl_set hl rfl h'))
theorem tz_iinc_4_n (C : tz_C I E cc k) {v0 v1 v2 v3 : Option Value} {r : List (Option Value)} {x : Nat} (d : decode cc pc = .ok (.iinc 4 1, 3)) (K : tz_Z I E (pc + 3) (v0 :: v1 :: v2 :: v3 :: some (.int (nI (x + 1))) :: r) st a) : tz_Z I E pc (v0 :: v1 :: v2 :: v3 :: some (.int (nI x)) :: r) st a := tz_iinc_4 C d (nI_1 x) K
theorem tz_forget_4 {v0 v1 v2 v3 : Option Value} {v : Option Value} {r : List (Option Value)} (K : tz_Z I E pc (v0 :: v1 :: v2 :: v3 :: none :: r) st a) : tz_Z I E pc (v0 :: v1 :: v2 :: v3 :: v :: r) st a := fun H locs ls hP hD hS hl => K H locs ls hP hD hS (tz_zl_less hl rfl (fun j w hj => by
  by_cases hji : j = 4
  · subst hji; cases hj
  · have h := List.getElem?_set (l := (v0 :: v1 :: v2 :: v3 :: v :: r)) (i := 4) (j := j) (a := none)
    rw [if_neg (Ne.symm hji)] at h
    exact h.symm.trans hj))
theorem tz_iload_5 (C : tz_C I E cc k) {v0 v1 v2 v3 v4 : Option Value} {r : List (Option Value)} {x : Int32} (d : decode cc pc = .ok (.iload 5, 2)) (K : tz_Z I E (pc + 2) (v0 :: v1 :: v2 :: v3 :: v4 :: some (.int x) :: r) (.int x :: st) a) : tz_Z I E pc (v0 :: v1 :: v2 :: v3 :: v4 :: some (.int x) :: r) st a := fun H locs ls hP hD hS hl => lv_iload C.1 C.2.1 d (tz_zl_at hl 5 rfl) (K H locs ls hP hD hS hl)
theorem tz_istore_5 (C : tz_C I E cc k) {v0 v1 v2 v3 v4 : Option Value} {v : Option Value} {r : List (Option Value)} {x : Int32} (d : decode cc pc = .ok (.istore 5, 2)) (K : tz_Z I E (pc + 2) (v0 :: v1 :: v2 :: v3 :: v4 :: some (.int x) :: r) st a) : tz_Z I E pc (v0 :: v1 :: v2 :: v3 :: v4 :: v :: r) (.int x :: st) a := fun H locs ls hP hD hS hl => lv_istore (i := 5) C.1 C.2.1 d (tz_zl_has hl) (tz_zl_lt hl (by simp only [List.length_cons]; omega)) rfl (fun ls' h' => K H locs ls' hP hD hS (tz_zl_set hl rfl h'))
theorem tz_iinc_5 (C : tz_C I E cc k) {v0 v1 v2 v3 v4 : Option Value} {r : List (Option Value)} {x y : Int32} {n : Int} (d : decode cc pc = .ok (.iinc 5 n, 3)) (hv : x + Int32.ofInt n = y) (K : tz_Z I E (pc + 3) (v0 :: v1 :: v2 :: v3 :: v4 :: some (.int y) :: r) st a) : tz_Z I E pc (v0 :: v1 :: v2 :: v3 :: v4 :: some (.int x) :: r) st a := by
  intro H locs ls hP hD hS hl
  obtain ⟨q, hq⟩ := List.getElem?_of_mem (tz_zL_mem (lv := (v0 :: v1 :: v2 :: v3 :: v4 :: some (.int x) :: r)) (i := 5) (v := .int x) rfl)
  exact lv_iinc (i := 5) C.1 C.2.1 d (tz_zl_has hl) hq hv (tz_zl_lt hl (by simp only [List.length_cons]; omega)) rfl (fun ls' h' => K H locs ls' hP hD hS (tz_zl_set hl rfl h'))
theorem tz_iinc_5_n (C : tz_C I E cc k) {v0 v1 v2 v3 v4 : Option Value} {r : List (Option Value)} {x : Nat} (d : decode cc pc = .ok (.iinc 5 1, 3)) (K : tz_Z I E (pc + 3) (v0 :: v1 :: v2 :: v3 :: v4 :: some (.int (nI (x + 1))) :: r) st a) : tz_Z I E pc (v0 :: v1 :: v2 :: v3 :: v4 :: some (.int (nI x)) :: r) st a := tz_iinc_5 C d (nI_1 x) K
theorem tz_forget_5 {v0 v1 v2 v3 v4 : Option Value} {v : Option Value} {r : List (Option Value)} (K : tz_Z I E pc (v0 :: v1 :: v2 :: v3 :: v4 :: none :: r) st a) : tz_Z I E pc (v0 :: v1 :: v2 :: v3 :: v4 :: v :: r) st a := fun H locs ls hP hD hS hl => K H locs ls hP hD hS (tz_zl_less hl rfl (fun j w hj => by
  by_cases hji : j = 5
  · subst hji; cases hj
  · have h := List.getElem?_set (l := (v0 :: v1 :: v2 :: v3 :: v4 :: v :: r)) (i := 5) (j := j) (a := none)
    rw [if_neg (Ne.symm hji)] at h
    exact h.symm.trans hj))
theorem tz_iload_6 (C : tz_C I E cc k) {v0 v1 v2 v3 v4 v5 : Option Value} {r : List (Option Value)} {x : Int32} (d : decode cc pc = .ok (.iload 6, 2)) (K : tz_Z I E (pc + 2) (v0 :: v1 :: v2 :: v3 :: v4 :: v5 :: some (.int x) :: r) (.int x :: st) a) : tz_Z I E pc (v0 :: v1 :: v2 :: v3 :: v4 :: v5 :: some (.int x) :: r) st a := fun H locs ls hP hD hS hl => lv_iload C.1 C.2.1 d (tz_zl_at hl 6 rfl) (K H locs ls hP hD hS hl)
theorem tz_istore_6 (C : tz_C I E cc k) {v0 v1 v2 v3 v4 v5 : Option Value} {v : Option Value} {r : List (Option Value)} {x : Int32} (d : decode cc pc = .ok (.istore 6, 2)) (K : tz_Z I E (pc + 2) (v0 :: v1 :: v2 :: v3 :: v4 :: v5 :: some (.int x) :: r) st a) : tz_Z I E pc (v0 :: v1 :: v2 :: v3 :: v4 :: v5 :: v :: r) (.int x :: st) a := fun H locs ls hP hD hS hl => lv_istore (i := 6) C.1 C.2.1 d (tz_zl_has hl) (tz_zl_lt hl (by simp only [List.length_cons]; omega)) rfl (fun ls' h' => K H locs ls' hP hD hS (tz_zl_set hl rfl h'))
theorem tz_iinc_6 (C : tz_C I E cc k) {v0 v1 v2 v3 v4 v5 : Option Value} {r : List (Option Value)} {x y : Int32} {n : Int} (d : decode cc pc = .ok (.iinc 6 n, 3)) (hv : x + Int32.ofInt n = y) (K : tz_Z I E (pc + 3) (v0 :: v1 :: v2 :: v3 :: v4 :: v5 :: some (.int y) :: r) st a) : tz_Z I E pc (v0 :: v1 :: v2 :: v3 :: v4 :: v5 :: some (.int x) :: r) st a := by
  intro H locs ls hP hD hS hl
  obtain ⟨q, hq⟩ := List.getElem?_of_mem (tz_zL_mem (lv := (v0 :: v1 :: v2 :: v3 :: v4 :: v5 :: some (.int x) :: r)) (i := 6) (v := .int x) rfl)
  exact lv_iinc (i := 6) C.1 C.2.1 d (tz_zl_has hl) hq hv (tz_zl_lt hl (by simp only [List.length_cons]; omega)) rfl (fun ls' h' => K H locs ls' hP hD hS (tz_zl_set hl rfl h'))
theorem tz_iinc_6_n (C : tz_C I E cc k) {v0 v1 v2 v3 v4 v5 : Option Value} {r : List (Option Value)} {x : Nat} (d : decode cc pc = .ok (.iinc 6 1, 3)) (K : tz_Z I E (pc + 3) (v0 :: v1 :: v2 :: v3 :: v4 :: v5 :: some (.int (nI (x + 1))) :: r) st a) : tz_Z I E pc (v0 :: v1 :: v2 :: v3 :: v4 :: v5 :: some (.int (nI x)) :: r) st a := tz_iinc_6 C d (nI_1 x) K
theorem tz_forget_6 {v0 v1 v2 v3 v4 v5 : Option Value} {v : Option Value} {r : List (Option Value)} (K : tz_Z I E pc (v0 :: v1 :: v2 :: v3 :: v4 :: v5 :: none :: r) st a) : tz_Z I E pc (v0 :: v1 :: v2 :: v3 :: v4 :: v5 :: v :: r) st a := fun H locs ls hP hD hS hl => K H locs ls hP hD hS (tz_zl_less hl rfl (fun j w hj => by
  by_cases hji : j = 6
  · subst hji; cases hj
  · have h := List.getElem?_set (l := (v0 :: v1 :: v2 :: v3 :: v4 :: v5 :: v :: r)) (i := 6) (j := j) (a := none)
    rw [if_neg (Ne.symm hji)] at h
    exact h.symm.trans hj))
theorem tz_iload_7 (C : tz_C I E cc k) {v0 v1 v2 v3 v4 v5 v6 : Option Value} {r : List (Option Value)} {x : Int32} (d : decode cc pc = .ok (.iload 7, 2)) (K : tz_Z I E (pc + 2) (v0 :: v1 :: v2 :: v3 :: v4 :: v5 :: v6 :: some (.int x) :: r) (.int x :: st) a) : tz_Z I E pc (v0 :: v1 :: v2 :: v3 :: v4 :: v5 :: v6 :: some (.int x) :: r) st a := fun H locs ls hP hD hS hl => lv_iload C.1 C.2.1 d (tz_zl_at hl 7 rfl) (K H locs ls hP hD hS hl)
theorem tz_istore_7 (C : tz_C I E cc k) {v0 v1 v2 v3 v4 v5 v6 : Option Value} {v : Option Value} {r : List (Option Value)} {x : Int32} (d : decode cc pc = .ok (.istore 7, 2)) (K : tz_Z I E (pc + 2) (v0 :: v1 :: v2 :: v3 :: v4 :: v5 :: v6 :: some (.int x) :: r) st a) : tz_Z I E pc (v0 :: v1 :: v2 :: v3 :: v4 :: v5 :: v6 :: v :: r) (.int x :: st) a := fun H locs ls hP hD hS hl => lv_istore (i := 7) C.1 C.2.1 d (tz_zl_has hl) (tz_zl_lt hl (by simp only [List.length_cons]; omega)) rfl (fun ls' h' => K H locs ls' hP hD hS (tz_zl_set hl rfl h'))
theorem tz_iinc_7 (C : tz_C I E cc k) {v0 v1 v2 v3 v4 v5 v6 : Option Value} {r : List (Option Value)} {x y : Int32} {n : Int} (d : decode cc pc = .ok (.iinc 7 n, 3)) (hv : x + Int32.ofInt n = y) (K : tz_Z I E (pc + 3) (v0 :: v1 :: v2 :: v3 :: v4 :: v5 :: v6 :: some (.int y) :: r) st a) : tz_Z I E pc (v0 :: v1 :: v2 :: v3 :: v4 :: v5 :: v6 :: some (.int x) :: r) st a := by
  intro H locs ls hP hD hS hl
  obtain ⟨q, hq⟩ := List.getElem?_of_mem (tz_zL_mem (lv := (v0 :: v1 :: v2 :: v3 :: v4 :: v5 :: v6 :: some (.int x) :: r)) (i := 7) (v := .int x) rfl)
  exact lv_iinc (i := 7) C.1 C.2.1 d (tz_zl_has hl) hq hv (tz_zl_lt hl (by simp only [List.length_cons]; omega)) rfl (fun ls' h' => K H locs ls' hP hD hS (tz_zl_set hl rfl h'))
theorem tz_iinc_7_n (C : tz_C I E cc k) {v0 v1 v2 v3 v4 v5 v6 : Option Value} {r : List (Option Value)} {x : Nat} (d : decode cc pc = .ok (.iinc 7 1, 3)) (K : tz_Z I E (pc + 3) (v0 :: v1 :: v2 :: v3 :: v4 :: v5 :: v6 :: some (.int (nI (x + 1))) :: r) st a) : tz_Z I E pc (v0 :: v1 :: v2 :: v3 :: v4 :: v5 :: v6 :: some (.int (nI x)) :: r) st a := tz_iinc_7 C d (nI_1 x) K
theorem tz_forget_7 {v0 v1 v2 v3 v4 v5 v6 : Option Value} {v : Option Value} {r : List (Option Value)} (K : tz_Z I E pc (v0 :: v1 :: v2 :: v3 :: v4 :: v5 :: v6 :: none :: r) st a) : tz_Z I E pc (v0 :: v1 :: v2 :: v3 :: v4 :: v5 :: v6 :: v :: r) st a := fun H locs ls hP hD hS hl => K H locs ls hP hD hS (tz_zl_less hl rfl (fun j w hj => by
  by_cases hji : j = 7
  · subst hji; cases hj
  · have h := List.getElem?_set (l := (v0 :: v1 :: v2 :: v3 :: v4 :: v5 :: v6 :: v :: r)) (i := 7) (j := j) (a := none)
    rw [if_neg (Ne.symm hji)] at h
    exact h.symm.trans hj))
theorem tz_iload_8 (C : tz_C I E cc k) {v0 v1 v2 v3 v4 v5 v6 v7 : Option Value} {r : List (Option Value)} {x : Int32} (d : decode cc pc = .ok (.iload 8, 2)) (K : tz_Z I E (pc + 2) (v0 :: v1 :: v2 :: v3 :: v4 :: v5 :: v6 :: v7 :: some (.int x) :: r) (.int x :: st) a) : tz_Z I E pc (v0 :: v1 :: v2 :: v3 :: v4 :: v5 :: v6 :: v7 :: some (.int x) :: r) st a := fun H locs ls hP hD hS hl => lv_iload C.1 C.2.1 d (tz_zl_at hl 8 rfl) (K H locs ls hP hD hS hl)
theorem tz_istore_8 (C : tz_C I E cc k) {v0 v1 v2 v3 v4 v5 v6 v7 : Option Value} {v : Option Value} {r : List (Option Value)} {x : Int32} (d : decode cc pc = .ok (.istore 8, 2)) (K : tz_Z I E (pc + 2) (v0 :: v1 :: v2 :: v3 :: v4 :: v5 :: v6 :: v7 :: some (.int x) :: r) st a) : tz_Z I E pc (v0 :: v1 :: v2 :: v3 :: v4 :: v5 :: v6 :: v7 :: v :: r) (.int x :: st) a := fun H locs ls hP hD hS hl => lv_istore (i := 8) C.1 C.2.1 d (tz_zl_has hl) (tz_zl_lt hl (by simp only [List.length_cons]; omega)) rfl (fun ls' h' => K H locs ls' hP hD hS (tz_zl_set hl rfl h'))
theorem tz_iinc_8 (C : tz_C I E cc k) {v0 v1 v2 v3 v4 v5 v6 v7 : Option Value} {r : List (Option Value)} {x y : Int32} {n : Int} (d : decode cc pc = .ok (.iinc 8 n, 3)) (hv : x + Int32.ofInt n = y) (K : tz_Z I E (pc + 3) (v0 :: v1 :: v2 :: v3 :: v4 :: v5 :: v6 :: v7 :: some (.int y) :: r) st a) : tz_Z I E pc (v0 :: v1 :: v2 :: v3 :: v4 :: v5 :: v6 :: v7 :: some (.int x) :: r) st a := by
  intro H locs ls hP hD hS hl
  obtain ⟨q, hq⟩ := List.getElem?_of_mem (tz_zL_mem (lv := (v0 :: v1 :: v2 :: v3 :: v4 :: v5 :: v6 :: v7 :: some (.int x) :: r)) (i := 8) (v := .int x) rfl)
  exact lv_iinc (i := 8) C.1 C.2.1 d (tz_zl_has hl) hq hv (tz_zl_lt hl (by simp only [List.length_cons]; omega)) rfl (fun ls' h' => K H locs ls' hP hD hS (tz_zl_set hl rfl h'))
theorem tz_iinc_8_n (C : tz_C I E cc k) {v0 v1 v2 v3 v4 v5 v6 v7 : Option Value} {r : List (Option Value)} {x : Nat} (d : decode cc pc = .ok (.iinc 8 1, 3)) (K : tz_Z I E (pc + 3) (v0 :: v1 :: v2 :: v3 :: v4 :: v5 :: v6 :: v7 :: some (.int (nI (x + 1))) :: r) st a) : tz_Z I E pc (v0 :: v1 :: v2 :: v3 :: v4 :: v5 :: v6 :: v7 :: some (.int (nI x)) :: r) st a := tz_iinc_8 C d (nI_1 x) K
theorem tz_forget_8 {v0 v1 v2 v3 v4 v5 v6 v7 : Option Value} {v : Option Value} {r : List (Option Value)} (K : tz_Z I E pc (v0 :: v1 :: v2 :: v3 :: v4 :: v5 :: v6 :: v7 :: none :: r) st a) : tz_Z I E pc (v0 :: v1 :: v2 :: v3 :: v4 :: v5 :: v6 :: v7 :: v :: r) st a := fun H locs ls hP hD hS hl => K H locs ls hP hD hS (tz_zl_less hl rfl (fun j w hj => by
  by_cases hji : j = 8
  · subst hji; cases hj
  · have h := List.getElem?_set (l := (v0 :: v1 :: v2 :: v3 :: v4 :: v5 :: v6 :: v7 :: v :: r)) (i := 8) (j := j) (a := none)
    rw [if_neg (Ne.symm hji)] at h
    exact h.symm.trans hj))
theorem tz_iload_9 (C : tz_C I E cc k) {v0 v1 v2 v3 v4 v5 v6 v7 v8 : Option Value} {r : List (Option Value)} {x : Int32} (d : decode cc pc = .ok (.iload 9, 2)) (K : tz_Z I E (pc + 2) (v0 :: v1 :: v2 :: v3 :: v4 :: v5 :: v6 :: v7 :: v8 :: some (.int x) :: r) (.int x :: st) a) : tz_Z I E pc (v0 :: v1 :: v2 :: v3 :: v4 :: v5 :: v6 :: v7 :: v8 :: some (.int x) :: r) st a := fun H locs ls hP hD hS hl => lv_iload C.1 C.2.1 d (tz_zl_at hl 9 rfl) (K H locs ls hP hD hS hl)
theorem tz_istore_9 (C : tz_C I E cc k) {v0 v1 v2 v3 v4 v5 v6 v7 v8 : Option Value} {v : Option Value} {r : List (Option Value)} {x : Int32} (d : decode cc pc = .ok (.istore 9, 2)) (K : tz_Z I E (pc + 2) (v0 :: v1 :: v2 :: v3 :: v4 :: v5 :: v6 :: v7 :: v8 :: some (.int x) :: r) st a) : tz_Z I E pc (v0 :: v1 :: v2 :: v3 :: v4 :: v5 :: v6 :: v7 :: v8 :: v :: r) (.int x :: st) a := fun H locs ls hP hD hS hl => lv_istore (i := 9) C.1 C.2.1 d (tz_zl_has hl) (tz_zl_lt hl (by simp only [List.length_cons]; omega)) rfl (fun ls' h' => K H locs ls' hP hD hS (tz_zl_set hl rfl h'))
theorem tz_iinc_9 (C : tz_C I E cc k) {v0 v1 v2 v3 v4 v5 v6 v7 v8 : Option Value} {r : List (Option Value)} {x y : Int32} {n : Int} (d : decode cc pc = .ok (.iinc 9 n, 3)) (hv : x + Int32.ofInt n = y) (K : tz_Z I E (pc + 3) (v0 :: v1 :: v2 :: v3 :: v4 :: v5 :: v6 :: v7 :: v8 :: some (.int y) :: r) st a) : tz_Z I E pc (v0 :: v1 :: v2 :: v3 :: v4 :: v5 :: v6 :: v7 :: v8 :: some (.int x) :: r) st a := by
  intro H locs ls hP hD hS hl
  obtain ⟨q, hq⟩ := List.getElem?_of_mem (tz_zL_mem (lv := (v0 :: v1 :: v2 :: v3 :: v4 :: v5 :: v6 :: v7 :: v8 :: some (.int x) :: r)) (i := 9) (v := .int x) rfl)
  exact lv_iinc (i := 9) C.1 C.2.1 d (tz_zl_has hl) hq hv (tz_zl_lt hl (by simp only [List.length_cons]; omega)) rfl (fun ls' h' => K H locs ls' hP hD hS (tz_zl_set hl rfl h'))
theorem tz_iinc_9_n (C : tz_C I E cc k) {v0 v1 v2 v3 v4 v5 v6 v7 v8 : Option Value} {r : List (Option Value)} {x : Nat} (d : decode cc pc = .ok (.iinc 9 1, 3)) (K : tz_Z I E (pc + 3) (v0 :: v1 :: v2 :: v3 :: v4 :: v5 :: v6 :: v7 :: v8 :: some (.int (nI (x + 1))) :: r) st a) : tz_Z I E pc (v0 :: v1 :: v2 :: v3 :: v4 :: v5 :: v6 :: v7 :: v8 :: some (.int (nI x)) :: r) st a := tz_iinc_9 C d (nI_1 x) K
theorem tz_forget_9 {v0 v1 v2 v3 v4 v5 v6 v7 v8 : Option Value} {v : Option Value} {r : List (Option Value)} (K : tz_Z I E pc (v0 :: v1 :: v2 :: v3 :: v4 :: v5 :: v6 :: v7 :: v8 :: none :: r) st a) : tz_Z I E pc (v0 :: v1 :: v2 :: v3 :: v4 :: v5 :: v6 :: v7 :: v8 :: v :: r) st a := fun H locs ls hP hD hS hl => K H locs ls hP hD hS (tz_zl_less hl rfl (fun j w hj => by
  by_cases hji : j = 9
  · subst hji; cases hj
  · have h := List.getElem?_set (l := (v0 :: v1 :: v2 :: v3 :: v4 :: v5 :: v6 :: v7 :: v8 :: v :: r)) (i := 9) (j := j) (a := none)
    rw [if_neg (Ne.symm hji)] at h
    exact h.symm.trans hj))
theorem tz_getA (ok : tz_ok I) (C : tz_C I E cc k) (q : Nat) {n i : Nat} (d : decode cc pc = .ok (.getfield i, 3)) (hs : tz_sh I q = some n) (hk : Cond.fieldLink (tz_own I) i (tz_T I q).1 (tz_T I q).2.1 (tz_T I q).2.2.1 ∈ lw_all) (K : tz_Z I E (pc + 3) lv (.ref (tz_h E q) :: st) a) : tz_Z I E pc lv (.ref (tz_h E 0) :: st) a := by
  intro H locs ls hP hD hS hl
  obtain ⟨o1, o2, o3, o4, o5, o6, o7, o8⟩ := ok
  obtain ⟨g1, g2, g3, -⟩ := o6 q n hs
  exact va_get C.1 C.2.1 C.2.2.2.2.1 o1 C.2.2.2.1 C.2.2.2.2.2.2.1 hP 0 (o5 _ _ _) o4 q g1 (C.2.2.2.2.1 _ hk) (fun _ h => h) (g3 _ _) d (K H locs ls hP hD hS hl)
theorem tz_getI (ok : tz_ok I) (C : tz_C I E cc k) (q : Nat) {i : Nat} (d : decode cc pc = .ok (.getfield i, 3)) (hs : tz_sh I q = none) (hq : q < tz_N I) (hk : Cond.fieldLink (tz_own I) i (tz_T I q).1 (tz_T I q).2.1 (tz_T I q).2.2.1 ∈ lw_all) (K : tz_Z I E (pc + 3) lv (.int (a q 0) :: st) a) : tz_Z I E pc lv (.ref (tz_h E 0) :: st) a := by
  intro H locs ls hP hD hS hl
  obtain ⟨o1, o2, o3, o4, o5, o6, o7, o8⟩ := ok
  exact va_get C.1 C.2.1 C.2.2.2.2.1 o1 C.2.2.2.1 C.2.2.2.2.2.2.1 hP 0 (o5 _ _ _) o4 q hq (C.2.2.2.2.1 _ hk) (fun _ h => h) ((o7 q hq hs).2 _ E.2.1.2.2.1 _).1 d (K H locs ls hP hD hS hl)
theorem tz_putI (ok : tz_ok I) (C : tz_C I E cc k) (q : Nat) {i : Nat} {v : Int32} (d : decode cc pc = .ok (.putfield i, 3)) (hs : tz_sh I q = none) (hq : q < tz_N I) (hk : Cond.fieldLink (tz_own I) i (tz_T I q).1 (tz_T I q).2.1 (tz_T I q).2.2.1 ∈ lw_all) (hn : narrow (tz_ty I q) (.int v) = .int v) (hf : fits (tz_ty I q) (.int v) = true) (K : tz_Z I E (pc + 3) lv st (tz_sw a q 0 v)) : tz_Z I E pc lv (.int v :: .ref (tz_h E 0) :: st) a := by
  intro H locs ls hP hD hS hl
  obtain ⟨o1, o2, o3, o4, o5, o6, o7, o8⟩ := ok
  obtain ⟨g1, g2⟩ := o7 q hq hs
  obtain ⟨g3, g4⟩ := g2 E.2.1.2.1 E.2.1.2.2.1 a
  refine va_put C.1 C.2.1 C.2.2.2.2.1 o1 (tz_ty I) o2 o3 C.2.2.2.1 C.2.2.2.2.2.2.1 hP hD hS 0 (o5 _ _ _) o4 q hq (C.2.2.2.2.1 _ hk) (fun _ h => h) g1 (o2 q hq) hn hf (List.getElem?_eq_some_iff.mp g3).1 d (fun H1 locs1 hP1 hD1 hS1 => ?_)
  rw [g4 v] at hP1 hD1
  exact K H1 locs1 ls hP1 hD1 hS1 hl
theorem tz_iald (ok : tz_ok I) (C : tz_C I E cc k) {q n j : Nat} (d : decode cc pc = .ok (.iaload, 1)) (hs : tz_sh I q = some n) (K : tz_Z I E (pc + 1) lv (.int (a q j) :: st) a) (hj : j < n := by omega) : tz_Z I E pc lv (.int (nI j) :: .ref (tz_h E q) :: st) a := by
  intro H locs ls hP hD hS hl
  obtain ⟨o1, o2, o3, o4, o5, o6, o7, o8⟩ := ok
  obtain ⟨g1, g2, g3, p, g4⟩ := o6 q n hs
  refine va_iald C.1 C.2.1 C.2.2.2.2.2.2.1 hP p 0 (g4 _ _ _).1 (by rw [o8]; rfl) (vp_in_nI hj (by omega)) d ?_
  rw [nI_clamp (by omega)]
  exact K H locs ls hP hD hS hl
theorem tz_iast (ok : tz_ok I) (C : tz_C I E cc k) {q n j : Nat} {v : Int32} (d : decode cc pc = .ok (.iastore, 1)) (hs : tz_sh I q = some n) (K : tz_Z I E (pc + 1) lv st (tz_sw a q j v)) (hj : j < n := by omega) : tz_Z I E pc lv (.int v :: .int (nI j) :: .ref (tz_h E q) :: st) a := by
  intro H locs ls hP hD hS hl
  obtain ⟨o1, o2, o3, o4, o5, o6, o7, o8⟩ := ok
  obtain ⟨g1, g2, g3, p, g4⟩ := o6 q n hs
  refine va_iast C.1 C.2.1 C.2.2.2.2.2.2.1 hP hD hS p 0 (g4 _ _ _).1 (by rw [o8]; rfl) (vp_in_nI hj (by omega)) d (fun H1 locs1 hP1 hD1 hS1 => ?_)
  rw [nI_clamp (by omega), (g4 _ _ _).2] at hP1 hD1
  exact K H1 locs1 ls hP1 hD1 hS1 hl
end
/-! contracts -/
def tz_Pc (I : tz_I) (D : va_G) (h : Nat → Nat) (d : ClassId) (sz : Nat) (a : tz_S) (xs : List Int32) : Array Value → State → Prop := va_Pc (.ref (h 0) :: xs.map .int) (fun U => U.heap.size = sz ∧ va_P D (tz_cl I) (tz_ws I h d a) U.heap ∧ va_K D (tz_cl I) (tz_tys I d) U ∧ va_D (fun _ => True) (tz_ws I h d a))
def tz_B (I : tz_I) (D : va_G) (h : Nat → Nat) (d : ClassId) (sz : Nat) (a : tz_S) (u : tz_S) (t : State) : Prop := va_P D (tz_cl I) (tz_ws I h d u) t.heap ∧ va_K D (tz_cl I) (tz_tys I d) t ∧ va_D (va_A (tz_ws I h d a) sz) (tz_ws I h d u)
/-- method y called with the ints xs in state a returns an int r (or a boolean) in state u with post r u -/
def tz_Mi (I : tz_I) (y : MethodName) (cc : ByteArray) (nL : Nat) (rt : FieldType) (k : Nat) (xs : List Int32) (a : tz_S) (post : Int32 → tz_S → Prop) : Prop :=
  ∀ (l : Launch) (D : va_G) (h : Nat → Nat) (d : ClassId) (sz : Nat), Met l y (ws_ y cc nL (some rt)) (tz_rm k) (tz_Pc I D h d sz a xs) (va_Qi post (tz_B I D h d sz a) (va_A (tz_ws I h d a) sz)) 0 0 (va_A (tz_ws I h d a) sz)
def tz_Mv (I : tz_I) (y : MethodName) (cc : ByteArray) (nL : Nat) (k : Nat) (xs : List Int32) (a : tz_S) (post : tz_S → Prop) : Prop :=
  ∀ (l : Launch) (D : va_G) (h : Nat → Nat) (d : ClassId) (sz : Nat), Met l y (ws_ y cc nL none) (tz_rm k) (tz_Pc I D h d sz a xs) (va_Qv post (tz_B I D h d sz a) (va_A (tz_ws I h d a) sz)) 0 0 (va_A (tz_ws I h d a) sz)
/-- a static method that touches no cell -/
def tz_Si (y : MethodName) (cc : ByteArray) (nL : Nat) (k : Nat) (xs : List Int32) (post : Int32 → Prop) : Prop :=
  ∀ (l : Launch) (sz : Nat), Met l y (ws_ y cc nL (some .int)) (tz_rm k) (va_Pc (xs.map .int) (fun U => U.heap.size = sz)) (va_Qi (fun (r : Int32) (_ : Unit) => post r) (fun _ _ => True) (fun q => sz ≤ q)) 0 0 (fun q => sz ≤ q)
theorem tz_blind (I : tz_I) (D : va_G) (h : Nat → Nat) (d : ClassId) (sz : Nat) (a : tz_S) (xs : List Int32) : FrameBlind (tz_Pc I D h d sz a xs) := fun a U g mk q => by
  obtain ⟨q0, q1, qP, qK, qD⟩ := q
  exact ⟨q0, q1, qP, va_K.moved (u := U) (U := U.calling g mk a) (Vm.Alike.refl U.vm) qK, qD⟩
/-- what a call through 'this' needs of the tables, for any caller with room -/
def tz_V (own : String) (I : tz_I) (i : Nat) (y : MethodName) (cc : ByteArray) (nL : Nat) (ret : Option FieldType) (k n : Nat) : Prop :=
  ∀ {R : Room} {s : State} {args : Array Value}, (∀ w ∈ lw_all, w.before args s = true) → k + 1 ≤ R.frames → 8 + (nL + 11) + 38 * k ≤ R.locals → CallW R s args own (tz_own I) i y cc nL ret (ws_ y cc nL ret) (tz_rm k) 0 0 n
def tz_Vs (own : String) (i : Nat) (y : MethodName) (cc : ByteArray) (nL : Nat) (ret : Option FieldType) (k n : Nat) : Prop :=
  ∀ {R : Room} {s : State} {args : Array Value}, (∀ w ∈ lw_all, w.before args s = true) → k + 1 ≤ R.frames → 8 + (nL + 11) + 38 * k ≤ R.locals → CallB R s args own i y cc nL ret (ws_ y cc nL ret) (tz_rm k) 0 0 n ∧ (Cond.static y).before args s = true
section
variable {I : tz_I} {E : tz_E} {cc : ByteArray} {k pc : Nat} {lv : List (Option Value)} {st : List Value} {a : tz_S} {y : MethodName} {cc' : ByteArray} {nL k' n i : Nat} {rt : FieldType} {xs : List Int32}
theorem tz_callX (ok : tz_ok I) (C : tz_C I E cc k) {post : Int32 → tz_S → Prop} (M : tz_Mi I y cc' nL rt k' xs a post) (V : tz_V (tz_own I) I i y cc' nL (some rt) k' n) (hn : xs.length = n) (hk : k' + 1 ≤ k) (hL : nL ≤ 19) (hst : (st.map fun v => v.category).sum ≤ 8) (d : decode cc pc = .ok (.invokevirtual i, 3)) {st0 : List Value} (hs : st0 = (xs.map Value.int).reverse ++ .ref (tz_h E 0) :: st)
    (K : ∀ (r : Int32) (u : tz_S), post r u → tz_Z I E (pc + 3) lv (.int r :: st) u) : tz_Z I E pc lv st0 a := by
  intro H locs ls hP hD hS hl
  have hR := C.2.2.2.2.2.2.2
  obtain ⟨o1, o2, o3, o4, o5, o6, o7, o8⟩ := ok
  have hF : ∀ q, va_A (tz_ws I E.2.1.2.1 E.2.1.2.2.1 a) H.size q → E.2.1.2.2.2 q := fun q hq => by
    rcases hq with ⟨p, e, hp⟩ | hq
    · exact hD.2 p _ hp
    · exact C.2.2.2.2.2.1 q (Nat.le_trans hS.1 hq)
  subst hs
  refine va_calli (va_runV (As := xs.map Value.int) (rest := st) ⟨C.1, C.2.1, C.2.2.1, C.2.2.2.1, C.2.2.2.2.1⟩ (M E.1.2.1 E.2.1.1 E.2.1.2.1 E.2.1.2.2.1 H.size) (V C.2.2.2.2.1 (by rw [hR]; exact hk) (by rw [hR]; show _ ≤ 38 * k; omega)) ⟨tz_blind I _ _ _ _ _ _, va_recv C.2.2.2.2.2.2.1 hP o4 (o5 _ _ _), fun U hU hW => ⟨rfl, by rw [hU], by rw [hU]; exact hP, va_K.moved hW.alike C.2.2.2.2.2.2.1, hD.weaken (fun _ _ _ _ => trivial)⟩⟩ rfl (by rw [List.length_map]; exact hn) hl.1 rfl (lv_room hst) d ⟨Nat.zero_le _, Nat.zero_le _⟩) hS (fun q _ h => hF q h) hF (fun r u t H1 locs1 ht hvm hp hB hz hk1 hS1 => ?_)
  obtain ⟨b1, b2, b3⟩ := hB
  rw [ht] at b1
  exact K r u hp H1 locs1 ls b1 (b3.weaken (fun _ q _ h => hF q.1 h)) hS1 hl
theorem tz_callXv (ok : tz_ok I) (C : tz_C I E cc k) {post : tz_S → Prop} (M : tz_Mv I y cc' nL k' xs a post) (V : tz_V (tz_own I) I i y cc' nL none k' n) (hn : xs.length = n) (hk : k' + 1 ≤ k) (hL : nL ≤ 19) (hst : (st.map fun v => v.category).sum ≤ 8) (d : decode cc pc = .ok (.invokevirtual i, 3)) {st0 : List Value} (hs : st0 = (xs.map Value.int).reverse ++ .ref (tz_h E 0) :: st)
    (K : ∀ (u : tz_S), post u → tz_Z I E (pc + 3) lv st u) : tz_Z I E pc lv st0 a := by
  intro H locs ls hP hD hS hl
  have hR := C.2.2.2.2.2.2.2
  obtain ⟨o1, o2, o3, o4, o5, o6, o7, o8⟩ := ok
  have hF : ∀ q, va_A (tz_ws I E.2.1.2.1 E.2.1.2.2.1 a) H.size q → E.2.1.2.2.2 q := fun q hq => by
    rcases hq with ⟨p, e, hp⟩ | hq
    · exact hD.2 p _ hp
    · exact C.2.2.2.2.2.1 q (Nat.le_trans hS.1 hq)
  subst hs
  refine va_callv (va_runV (As := xs.map Value.int) (rest := st) ⟨C.1, C.2.1, C.2.2.1, C.2.2.2.1, C.2.2.2.2.1⟩ (M E.1.2.1 E.2.1.1 E.2.1.2.1 E.2.1.2.2.1 H.size) (V C.2.2.2.2.1 (by rw [hR]; exact hk) (by rw [hR]; show _ ≤ 38 * k; omega)) ⟨tz_blind I _ _ _ _ _ _, va_recv C.2.2.2.2.2.2.1 hP o4 (o5 _ _ _), fun U hU hW => ⟨rfl, by rw [hU], by rw [hU]; exact hP, va_K.moved hW.alike C.2.2.2.2.2.2.1, hD.weaken (fun _ _ _ _ => trivial)⟩⟩ rfl (by rw [List.length_map]; exact hn) hl.1 rfl (lv_room hst) d ⟨Nat.zero_le _, Nat.zero_le _⟩) hS (fun q _ h => hF q h) hF (fun u t H1 locs1 ht hvm hp hB hz hk1 hS1 => ?_)
  obtain ⟨b1, b2, b3⟩ := hB
  rw [ht] at b1
  exact K u hp H1 locs1 ls b1 (b3.weaken (fun _ q _ h => hF q.1 h)) hS1 hl
theorem tz_callS (C : tz_C I E cc k) {post : Int32 → Prop} (M : tz_Si y cc' nL k' xs post) (V : tz_Vs (tz_own I) i y cc' nL (some .int) k' n) (hn : xs.length = n) (hk : k' + 1 ≤ k) (hL : nL ≤ 19) (hst : (st.map fun v => v.category).sum ≤ 8) (d : decode cc pc = .ok (.invokestatic i, 3)) {st0 : List Value} (hs : st0 = (xs.map Value.int).reverse ++ st)
    (K : ∀ (r : Int32), post r → tz_Z I E (pc + 3) lv (.int r :: st) a) : tz_Z I E pc lv st0 a := by
  intro H locs ls hP hD hS hl
  have hR := C.2.2.2.2.2.2.2
  have hF : ∀ q, H.size ≤ q → E.2.1.2.2.2 q := fun q hq => C.2.2.2.2.2.1 q (Nat.le_trans hS.1 hq)
  subst hs
  refine va_calli (va_runS (As := xs.map Value.int) (rest := st) ⟨C.1, C.2.1, C.2.2.1, C.2.2.2.1, C.2.2.2.2.1⟩ (M E.1.2.1 H.size) (V C.2.2.2.2.1 (by rw [hR]; exact hk) (by rw [hR]; show _ ≤ 38 * k; omega)) ⟨fun a U g mk q => q, fun U hU hW => ⟨rfl, congrArg Array.size hU⟩⟩ rfl (by rw [List.length_map]; exact hn) hl.1 rfl (lv_room hst) d ⟨Nat.zero_le _, Nat.zero_le _⟩) hS (fun q _ h => hF q h) hF (fun r u t H1 locs1 ht hvm hp hB hz hk1 hS1 => ?_)
  exact K r hp H1 locs1 ls (hP.kept (fun p q hq => hk1 q.1 ((hP p q hq).lt) (Nat.not_le.mpr ((hP p q hq).lt)))) hD hS1 hl
theorem tz_call0 (ok : tz_ok I) (C : tz_C I E cc k) {post : Int32 → tz_S → Prop} (V : tz_V (tz_own I) I i y cc' nL (some rt) k' 0) (M : tz_Mi I y cc' nL rt k' [] a post) (d : decode cc pc = .ok (.invokevirtual i, 3)) (K : ∀ (r : Int32) (u : tz_S), post r u → tz_Z I E (pc + 3) lv (.int r :: st) u) (hk : k' + 1 ≤ k := by decide) (hL : nL ≤ 19 := by decide) (hst : (st.map fun v => v.category).sum ≤ 8 := by exact Nat.le_of_ble_eq_true rfl) : tz_Z I E pc lv (.ref (tz_h E 0) :: st) a := tz_callX ok C M V rfl hk hL hst d rfl K
theorem tz_callv0 (ok : tz_ok I) (C : tz_C I E cc k) {post : tz_S → Prop} (V : tz_V (tz_own I) I i y cc' nL none k' 0) (M : tz_Mv I y cc' nL k' [] a post) (d : decode cc pc = .ok (.invokevirtual i, 3)) (K : ∀ (u : tz_S), post u → tz_Z I E (pc + 3) lv st u) (hk : k' + 1 ≤ k := by decide) (hL : nL ≤ 19 := by decide) (hst : (st.map fun v => v.category).sum ≤ 8 := by exact Nat.le_of_ble_eq_true rfl) : tz_Z I E pc lv (.ref (tz_h E 0) :: st) a := tz_callXv ok C M V rfl hk hL hst d rfl K
theorem tz_call1 (ok : tz_ok I) (C : tz_C I E cc k) {x0 : Int32} {post : Int32 → tz_S → Prop} (V : tz_V (tz_own I) I i y cc' nL (some rt) k' 1) (M : tz_Mi I y cc' nL rt k' [x0] a post) (d : decode cc pc = .ok (.invokevirtual i, 3)) (K : ∀ (r : Int32) (u : tz_S), post r u → tz_Z I E (pc + 3) lv (.int r :: st) u) (hk : k' + 1 ≤ k := by decide) (hL : nL ≤ 19 := by decide) (hst : (st.map fun v => v.category).sum ≤ 8 := by exact Nat.le_of_ble_eq_true rfl) : tz_Z I E pc lv (.int x0 :: .ref (tz_h E 0) :: st) a := tz_callX ok C M V rfl hk hL hst d rfl K
theorem tz_callv1 (ok : tz_ok I) (C : tz_C I E cc k) {x0 : Int32} {post : tz_S → Prop} (V : tz_V (tz_own I) I i y cc' nL none k' 1) (M : tz_Mv I y cc' nL k' [x0] a post) (d : decode cc pc = .ok (.invokevirtual i, 3)) (K : ∀ (u : tz_S), post u → tz_Z I E (pc + 3) lv st u) (hk : k' + 1 ≤ k := by decide) (hL : nL ≤ 19 := by decide) (hst : (st.map fun v => v.category).sum ≤ 8 := by exact Nat.le_of_ble_eq_true rfl) : tz_Z I E pc lv (.int x0 :: .ref (tz_h E 0) :: st) a := tz_callXv ok C M V rfl hk hL hst d rfl K
theorem tz_call2 (ok : tz_ok I) (C : tz_C I E cc k) {x0 x1 : Int32} {post : Int32 → tz_S → Prop} (V : tz_V (tz_own I) I i y cc' nL (some rt) k' 2) (M : tz_Mi I y cc' nL rt k' [x0, x1] a post) (d : decode cc pc = .ok (.invokevirtual i, 3)) (K : ∀ (r : Int32) (u : tz_S), post r u → tz_Z I E (pc + 3) lv (.int r :: st) u) (hk : k' + 1 ≤ k := by decide) (hL : nL ≤ 19 := by decide) (hst : (st.map fun v => v.category).sum ≤ 8 := by exact Nat.le_of_ble_eq_true rfl) : tz_Z I E pc lv (.int x1 :: .int x0 :: .ref (tz_h E 0) :: st) a := tz_callX ok C M V rfl hk hL hst d rfl K
theorem tz_callv2 (ok : tz_ok I) (C : tz_C I E cc k) {x0 x1 : Int32} {post : tz_S → Prop} (V : tz_V (tz_own I) I i y cc' nL none k' 2) (M : tz_Mv I y cc' nL k' [x0, x1] a post) (d : decode cc pc = .ok (.invokevirtual i, 3)) (K : ∀ (u : tz_S), post u → tz_Z I E (pc + 3) lv st u) (hk : k' + 1 ≤ k := by decide) (hL : nL ≤ 19 := by decide) (hst : (st.map fun v => v.category).sum ≤ 8 := by exact Nat.le_of_ble_eq_true rfl) : tz_Z I E pc lv (.int x1 :: .int x0 :: .ref (tz_h E 0) :: st) a := tz_callXv ok C M V rfl hk hL hst d rfl K
theorem tz_call3 (ok : tz_ok I) (C : tz_C I E cc k) {x0 x1 x2 : Int32} {post : Int32 → tz_S → Prop} (V : tz_V (tz_own I) I i y cc' nL (some rt) k' 3) (M : tz_Mi I y cc' nL rt k' [x0, x1, x2] a post) (d : decode cc pc = .ok (.invokevirtual i, 3)) (K : ∀ (r : Int32) (u : tz_S), post r u → tz_Z I E (pc + 3) lv (.int r :: st) u) (hk : k' + 1 ≤ k := by decide) (hL : nL ≤ 19 := by decide) (hst : (st.map fun v => v.category).sum ≤ 8 := by exact Nat.le_of_ble_eq_true rfl) : tz_Z I E pc lv (.int x2 :: .int x1 :: .int x0 :: .ref (tz_h E 0) :: st) a := tz_callX ok C M V rfl hk hL hst d rfl K
theorem tz_callv3 (ok : tz_ok I) (C : tz_C I E cc k) {x0 x1 x2 : Int32} {post : tz_S → Prop} (V : tz_V (tz_own I) I i y cc' nL none k' 3) (M : tz_Mv I y cc' nL k' [x0, x1, x2] a post) (d : decode cc pc = .ok (.invokevirtual i, 3)) (K : ∀ (u : tz_S), post u → tz_Z I E (pc + 3) lv st u) (hk : k' + 1 ≤ k := by decide) (hL : nL ≤ 19 := by decide) (hst : (st.map fun v => v.category).sum ≤ 8 := by exact Nat.le_of_ble_eq_true rfl) : tz_Z I E pc lv (.int x2 :: .int x1 :: .int x0 :: .ref (tz_h E 0) :: st) a := tz_callXv ok C M V rfl hk hL hst d rfl K
theorem tz_call4 (ok : tz_ok I) (C : tz_C I E cc k) {x0 x1 x2 x3 : Int32} {post : Int32 → tz_S → Prop} (V : tz_V (tz_own I) I i y cc' nL (some rt) k' 4) (M : tz_Mi I y cc' nL rt k' [x0, x1, x2, x3] a post) (d : decode cc pc = .ok (.invokevirtual i, 3)) (K : ∀ (r : Int32) (u : tz_S), post r u → tz_Z I E (pc + 3) lv (.int r :: st) u) (hk : k' + 1 ≤ k := by decide) (hL : nL ≤ 19 := by decide) (hst : (st.map fun v => v.category).sum ≤ 8 := by exact Nat.le_of_ble_eq_true rfl) : tz_Z I E pc lv (.int x3 :: .int x2 :: .int x1 :: .int x0 :: .ref (tz_h E 0) :: st) a := tz_callX ok C M V rfl hk hL hst d rfl K
theorem tz_callv4 (ok : tz_ok I) (C : tz_C I E cc k) {x0 x1 x2 x3 : Int32} {post : tz_S → Prop} (V : tz_V (tz_own I) I i y cc' nL none k' 4) (M : tz_Mv I y cc' nL k' [x0, x1, x2, x3] a post) (d : decode cc pc = .ok (.invokevirtual i, 3)) (K : ∀ (u : tz_S), post u → tz_Z I E (pc + 3) lv st u) (hk : k' + 1 ≤ k := by decide) (hL : nL ≤ 19 := by decide) (hst : (st.map fun v => v.category).sum ≤ 8 := by exact Nat.le_of_ble_eq_true rfl) : tz_Z I E pc lv (.int x3 :: .int x2 :: .int x1 :: .int x0 :: .ref (tz_h E 0) :: st) a := tz_callXv ok C M V rfl hk hL hst d rfl K
theorem tz_calls1 (C : tz_C I E cc k) {x0 : Int32} {post : Int32 → Prop} (V : tz_Vs (tz_own I) i y cc' nL (some .int) k' 1) (M : tz_Si y cc' nL k' [x0] post) (d : decode cc pc = .ok (.invokestatic i, 3)) (K : ∀ (r : Int32), post r → tz_Z I E (pc + 3) lv (.int r :: st) a) (hk : k' + 1 ≤ k := by decide) (hL : nL ≤ 19 := by decide) (hst : (st.map fun v => v.category).sum ≤ 8 := by exact Nat.le_of_ble_eq_true rfl) : tz_Z I E pc lv (.int x0 :: st) a := tz_callS C M V rfl hk hL hst d rfl K
end
/-! entries -/
def tz_lv0 (vs : List Value) (nL : Nat) : List (Option Value) := vs.map some ++ List.replicate (nL - vs.length) none
theorem tz_sl1 : ∀ (vs : List Value), (∀ v ∈ vs, v.category = 1) → (lg_sl vs).length = vs.length ∧ ∀ (n i : Nat) (v : Value), vs[i]? = some v → (n + i, v) ∈ lv_args n vs
  | [], _ => ⟨rfl, fun n i v h => by simp at h⟩
  | w :: vs, hc => by
    have h1 : w.category = 1 := hc w List.mem_cons_self
    obtain ⟨g1, g2⟩ := tz_sl1 vs (fun v hv => hc v (List.mem_cons_of_mem _ hv))
    refine ⟨?_, fun n i v h => ?_⟩
    · show (List.flatMap _ (w :: vs)).length = _
      rw [List.flatMap_cons, List.length_append, List.length_cons, h1]
      have g3 : (List.flatMap (fun v : Value => if v.category = 2 then [Slot.val v, Slot.second] else [Slot.val v]) vs).length = vs.length := g1
      rw [g3]
      simp; omega
    · cases i with
      | zero => simp at h; subst h; simp [lv_args]
      | succ i =>
        have h2 := g2 (n + 1) i v (by simpa using h)
        rw [show n + (i + 1) = n + 1 + i by omega]
        simp only [lv_args, h1]
        simp
        first | exact h2 | exact Or.inr h2
theorem tz_lv0_zl (vs : List Value) {nL : Nat} (hc : ∀ v ∈ vs, v.category = 1) (hn : vs.length ≤ nL) : tz_zl ((lg_sl vs ++ List.replicate (nL - (lg_sl vs).length) Slot.unset).toArray) nL (tz_lv0 vs nL) := by
  obtain ⟨g1, g2⟩ := tz_sl1 vs hc
  have h := lv_entry vs (n := nL) (by rw [g1]; exact hn)
  refine ⟨h.1, by simp [tz_lv0]; omega, h.2.1, fun i v hv => ?_⟩
  have hi : vs[i]? = some v := by
    unfold tz_lv0 at hv
    by_cases hl : i < vs.length
    · rw [List.getElem?_append_left (by simpa using hl), List.getElem?_map] at hv
      cases hq : vs[i]? with
      | none => rw [hq] at hv; cases hv
      | some w => rw [hq] at hv; cases hv; rfl
    · rw [List.getElem?_append_right (by simpa using hl), List.getElem?_replicate] at hv
      split at hv <;> cases hv
  refine ⟨?_, hc v (List.mem_of_getElem? hi)⟩
  have h3 := h.2.2 _ (g2 0 i v hi)
  simpa using h3
section
variable {I : tz_I} {y : MethodName} {cc : ByteArray} {nL k : Nat} {rt : FieldType} {xs : List Int32} {a : tz_S}
theorem tz_cat (b : Nat) (xs : List Int32) : ∀ v ∈ (Value.ref b :: xs.map Value.int), v.category = 1 := by
  intro v hv
  rcases List.mem_cons.mp hv with rfl | hv
  · rfl
  · obtain ⟨x, -, rfl⟩ := List.mem_map.mp hv
    rfl
/-- a method with an int or boolean answer: its body from its entry -/
theorem tz_enter {post : Int32 → tz_S → Prop} (hy : plainName y.cls = true) (hc : y.cls = tz_own I) (hn : xs.length + 1 ≤ nL)
    (body : ∀ E : tz_E, tz_C I E cc k → (∀ (pc : Nat) (lv : List (Option Value)) (v : Int32) (u : tz_S), decode cc pc = .ok (.ireturn, 1) → narrow rt (.int v) = .int v → post v u → tz_Z I E pc lv [.int v] u) → tz_Z I E 0 (tz_lv0 (.ref (tz_h E 0) :: xs.map Value.int) nL) [] a) : tz_Mi I y cc nL rt k xs a post := by
  intro l D h d sz
  refine Met.ofW (cc := cc) (maxL := nL) (ret := some rt) hy rfl ?_
  intro p e s m args below meth c s₁ B hml hv
  obtain ⟨rfl, hsz, hP, hK, hD0⟩ := hv
  have hx := B.exec
  have hb := B.bytes
  have hr := B.returns
  have hts := atoms_spec (ws := ws_ y cc nL (some rt)) B.pre
  have hts : ∀ w ∈ lw_all, w.before _ s = true := fun w h => hts w (List.mem_cons_of_mem _ h)
  have hown : s.vm.findClass (tz_own I) = some m.cls := hc ▸ findClass_of_methodNamed B.named
  have hlocks := B.notSynchronized
  subst hsz
  have hD := hD0.self (sz := s.heap.size)
  have hz := tz_lv0_zl (Value.ref (h 0) :: xs.map Value.int) (tz_cat (h 0) xs) (nL := nL) (by simpa using hn)
  rw [lg_entry_eq]
  generalize (lg_sl (Value.ref (h 0) :: xs.map Value.int) ++ List.replicate (nL - (lg_sl (Value.ref (h 0) :: xs.map Value.int)).length) Slot.unset).toArray = ls at hz ⊢
  exact body ((p, l, e, s, m, _, below, meth, c), (D, h, d, va_A (tz_ws I h d a) s.heap.size), (_, nL, _)) ⟨hx, hb, hml, hown, hts, fun q hq => Or.inr hq, hK, rfl⟩
    (fun pc lv v u hdg hnr hp H locs ls hP hD hS hl => W.zret hx hb hr hnr (fun t ht hW => ⟨⟨v, u, rfl, hp, by rw [ht]; exact hP, va_K.moved hW.alike hK, hD⟩, hS.F ht⟩) hS.2.2 hdg) s.heap [] ls hP hD va_S.rf hz
theorem tz_enterv {post : tz_S → Prop} (hy : plainName y.cls = true) (hc : y.cls = tz_own I) (hn : xs.length + 1 ≤ nL)
    (body : ∀ E : tz_E, tz_C I E cc k → (∀ (pc : Nat) (lv : List (Option Value)) (u : tz_S), decode cc pc = .ok (.return_, 1) → post u → tz_Z I E pc lv [] u) → tz_Z I E 0 (tz_lv0 (.ref (tz_h E 0) :: xs.map Value.int) nL) [] a) : tz_Mv I y cc nL k xs a post := by
  intro l D h d sz
  refine Met.ofW (cc := cc) (maxL := nL) (ret := none) hy rfl ?_
  intro p e s m args below meth c s₁ B hml hv
  obtain ⟨rfl, hsz, hP, hK, hD0⟩ := hv
  have hx := B.exec
  have hb := B.bytes
  have hr := B.returns
  have hts := atoms_spec (ws := ws_ y cc nL none) B.pre
  have hts : ∀ w ∈ lw_all, w.before _ s = true := fun w h => hts w (List.mem_cons_of_mem _ h)
  have hown : s.vm.findClass (tz_own I) = some m.cls := hc ▸ findClass_of_methodNamed B.named
  have hlocks := B.notSynchronized
  subst hsz
  have hD := hD0.self (sz := s.heap.size)
  have hz := tz_lv0_zl (Value.ref (h 0) :: xs.map Value.int) (tz_cat (h 0) xs) (nL := nL) (by simpa using hn)
  rw [lg_entry_eq]
  generalize (lg_sl (Value.ref (h 0) :: xs.map Value.int) ++ List.replicate (nL - (lg_sl (Value.ref (h 0) :: xs.map Value.int)).length) Slot.unset).toArray = ls at hz ⊢
  exact body ((p, l, e, s, m, _, below, meth, c), (D, h, d, va_A (tz_ws I h d a) s.heap.size), (_, nL, _)) ⟨hx, hb, hml, hown, hts, fun q hq => Or.inr hq, hK, rfl⟩
    (fun pc lv u hdg hp H locs ls hP hD hS hl => W.vret hx hb hr (fun t ht hW => ⟨⟨u, rfl, hp, by rw [ht]; exact hP, va_K.moved hW.alike hK, hD⟩, hS.F ht⟩) hS.2.2 hdg) s.heap [] ls hP hD va_S.rf hz
end
theorem tz_nil {α : Type} {x : α} (k : Nat) : ¬ ([] : List α)[k]? = some x := by simp
/-- no world: for static methods that touch no cell -/
abbrev tz_I0 (own : String) : tz_I := ([], fun _ _ _ => [], fun _ _ => [], own, fun _ => ("", "", "", false), fun _ => .int, 0, 0, fun _ => none, fun _ => [])
theorem tz_enters {y : MethodName} {cc : ByteArray} {nL k : Nat} {xs : List Int32} {post : Int32 → Prop} (hy : plainName y.cls = true) (hn : xs.length ≤ nL)
    (body : ∀ (E : tz_E) (a : tz_S), tz_C (tz_I0 y.cls) E cc k → (∀ (pc : Nat) (lv : List (Option Value)) (v : Int32), decode cc pc = .ok (.ireturn, 1) → post v → tz_Z (tz_I0 y.cls) E pc lv [.int v] a) → tz_Z (tz_I0 y.cls) E 0 (tz_lv0 (xs.map Value.int) nL) [] a) : tz_Si y cc nL k xs post := by
  intro l sz
  refine Met.ofW (cc := cc) (maxL := nL) (ret := some .int) hy rfl ?_
  intro p e s m args below meth c s₁ B hml hv
  obtain ⟨rfl, hsz⟩ := hv
  have hx := B.exec
  have hb := B.bytes
  have hr := B.returns
  have hts := atoms_spec (ws := ws_ y cc nL (some .int)) B.pre
  have hts : ∀ w ∈ lw_all, w.before _ s = true := fun w h => hts w (List.mem_cons_of_mem _ h)
  have hown : s.vm.findClass y.cls = some m.cls := findClass_of_methodNamed B.named
  have hlocks := B.notSynchronized
  subst hsz
  have hz := tz_lv0_zl (xs.map Value.int) (fun v hv => by obtain ⟨x, -, rfl⟩ := List.mem_map.mp hv; rfl) (nL := nL) (by simpa using hn)
  rw [lg_entry_eq]
  generalize (lg_sl (xs.map Value.int) ++ List.replicate (nL - (lg_sl (xs.map Value.int)).length) Slot.unset).toArray = ls at hz ⊢
  exact body ((p, l, e, s, m, _, below, meth, c), ((fun _ => 0, fun _ _ => 0), fun _ => 0, 0, fun q => s.heap.size ≤ q), (_, nL, _)) (fun _ _ => 0) ⟨hx, hb, hml, hown, hts, fun q hq => hq, ⟨fun c q h => absurd h (tz_nil c), fun k q h => absurd h (tz_nil k)⟩, rfl⟩
    (fun pc lv v hdg hp H locs ls hP hD hS hl => W.iret hx hb hr (fun t ht hW => ⟨⟨v, (), rfl, hp, trivial⟩, hS.F ht⟩) hS.2.2 hdg) s.heap [] ls (fun k q h => absurd h (tz_nil k)) ⟨fun i j p q h => absurd h (tz_nil i), fun k q h => absurd h (tz_nil k)⟩ va_S.rf hz
end
section
/-! TrapProver -/
set_option maxRecDepth 100000
def RX0 : String := "TrapProver"
def TX0 : u_T := fun k => match k with
  | 0 => ("TrapProver", "length", "I", false)
  | 1 => ("TrapProver", "op", "[I", true)
  | 2 => ("TrapProver", "arg", "[I", true)
  | 3 => ("TrapProver", "low", "[I", true)
  | 4 => ("TrapProver", "high", "[I", true)
  | 5 => ("TrapProver", "ready", "Z", false)
  | 6 => ("TrapProver", "have", "[I", true)
  | 7 => ("TrapProver", "fresh", "[I", true)
  | 8 => ("TrapProver", "coming", "[I", true)
  | 9 => ("TrapProver", "alive", "[I", true)
  | 10 => ("TrapProver", "first", "[I", true)
  | 11 => ("TrapProver", "ends", "Z", false)
  | 12 => ("TrapProver", "in", "[I", true)
  | 13 => ("TrapProver", "next", "[I", true)
  | 14 => ("TrapProver", "away", "[I", true)
  | _ => ("TrapProver", "trap", "[I", true)
def tyX0 : Nat → FieldType := fun k => match k with
  | 0 => .int
  | 1 => .array .int
  | 2 => .array .int
  | 3 => .array .int
  | 4 => .array .int
  | 5 => .boolean
  | 6 => .array .int
  | 7 => .array .int
  | 8 => .array .int
  | 9 => .array .int
  | 10 => .array .int
  | 11 => .boolean
  | 12 => .array .int
  | 13 => .array .int
  | 14 => .array .int
  | _ => .array .int
abbrev wsX00 : List Cond := u_ws RX0 TX0 16
set_option maxRecDepth 100000 in
theorem nmX0 : ∀ a, a < 16 → ∀ b, b < 16 → a ≠ b → (TX0 a).2.1 ≠ (TX0 b).2.1 := by decide +kernel
set_option maxRecDepth 100000 in
theorem tyX0_ok : ∀ k, k < 16 → parseFieldDescriptor (TX0 k).2.2.1 = some (tyX0 k) := by decide +kernel
abbrev cX0_init : ByteArray := prog_1_method_1_code
def yX0_init : MethodName := ⟨RX0, "<init>", "()V"⟩
theorem dX0_init_0 : decode cX0_init 0 = .ok (.aload_n 0, 1) := by decide +kernel
theorem dX0_init_1 : decode cX0_init 1 = .ok (.invokespecial 1, 3) := by decide +kernel
theorem dX0_init_4 : decode cX0_init 4 = .ok (.aload_n 0, 1) := by decide +kernel
theorem dX0_init_5 : decode cX0_init 5 = .ok (.bipush 16, 2) := by decide +kernel
theorem dX0_init_7 : decode cX0_init 7 = .ok (.newarray .int, 2) := by decide +kernel
theorem dX0_init_9 : decode cX0_init 9 = .ok (.putfield 7, 3) := by decide +kernel
theorem dX0_init_12 : decode cX0_init 12 = .ok (.aload_n 0, 1) := by decide +kernel
theorem dX0_init_13 : decode cX0_init 13 = .ok (.bipush 16, 2) := by decide +kernel
theorem dX0_init_15 : decode cX0_init 15 = .ok (.newarray .int, 2) := by decide +kernel
theorem dX0_init_17 : decode cX0_init 17 = .ok (.putfield 13, 3) := by decide +kernel
theorem dX0_init_20 : decode cX0_init 20 = .ok (.aload_n 0, 1) := by decide +kernel
theorem dX0_init_21 : decode cX0_init 21 = .ok (.iconst 2, 1) := by decide +kernel
theorem dX0_init_22 : decode cX0_init 22 = .ok (.newarray .int, 2) := by decide +kernel
theorem dX0_init_24 : decode cX0_init 24 = .ok (.putfield 16, 3) := by decide +kernel
theorem dX0_init_27 : decode cX0_init 27 = .ok (.aload_n 0, 1) := by decide +kernel
theorem dX0_init_28 : decode cX0_init 28 = .ok (.iconst 2, 1) := by decide +kernel
theorem dX0_init_29 : decode cX0_init 29 = .ok (.newarray .int, 2) := by decide +kernel
theorem dX0_init_31 : decode cX0_init 31 = .ok (.putfield 19, 3) := by decide +kernel
theorem dX0_init_34 : decode cX0_init 34 = .ok (.aload_n 0, 1) := by decide +kernel
theorem dX0_init_35 : decode cX0_init 35 = .ok (.sipush 256, 3) := by decide +kernel
theorem dX0_init_38 : decode cX0_init 38 = .ok (.newarray .int, 2) := by decide +kernel
theorem dX0_init_40 : decode cX0_init 40 = .ok (.putfield 22, 3) := by decide +kernel
theorem dX0_init_43 : decode cX0_init 43 = .ok (.aload_n 0, 1) := by decide +kernel
theorem dX0_init_44 : decode cX0_init 44 = .ok (.sipush 256, 3) := by decide +kernel
theorem dX0_init_47 : decode cX0_init 47 = .ok (.newarray .int, 2) := by decide +kernel
theorem dX0_init_49 : decode cX0_init 49 = .ok (.putfield 25, 3) := by decide +kernel
theorem dX0_init_52 : decode cX0_init 52 = .ok (.aload_n 0, 1) := by decide +kernel
theorem dX0_init_53 : decode cX0_init 53 = .ok (.sipush 256, 3) := by decide +kernel
theorem dX0_init_56 : decode cX0_init 56 = .ok (.newarray .int, 2) := by decide +kernel
theorem dX0_init_58 : decode cX0_init 58 = .ok (.putfield 28, 3) := by decide +kernel
theorem dX0_init_61 : decode cX0_init 61 = .ok (.aload_n 0, 1) := by decide +kernel
theorem dX0_init_62 : decode cX0_init 62 = .ok (.sipush 256, 3) := by decide +kernel
theorem dX0_init_65 : decode cX0_init 65 = .ok (.newarray .int, 2) := by decide +kernel
theorem dX0_init_67 : decode cX0_init 67 = .ok (.putfield 31, 3) := by decide +kernel
theorem dX0_init_70 : decode cX0_init 70 = .ok (.aload_n 0, 1) := by decide +kernel
theorem dX0_init_71 : decode cX0_init 71 = .ok (.bipush 16, 2) := by decide +kernel
theorem dX0_init_73 : decode cX0_init 73 = .ok (.newarray .int, 2) := by decide +kernel
theorem dX0_init_75 : decode cX0_init 75 = .ok (.putfield 34, 3) := by decide +kernel
theorem dX0_init_78 : decode cX0_init 78 = .ok (.aload_n 0, 1) := by decide +kernel
theorem dX0_init_79 : decode cX0_init 79 = .ok (.bipush 16, 2) := by decide +kernel
theorem dX0_init_81 : decode cX0_init 81 = .ok (.newarray .int, 2) := by decide +kernel
theorem dX0_init_83 : decode cX0_init 83 = .ok (.putfield 37, 3) := by decide +kernel
theorem dX0_init_86 : decode cX0_init 86 = .ok (.aload_n 0, 1) := by decide +kernel
theorem dX0_init_87 : decode cX0_init 87 = .ok (.bipush 16, 2) := by decide +kernel
theorem dX0_init_89 : decode cX0_init 89 = .ok (.newarray .int, 2) := by decide +kernel
theorem dX0_init_91 : decode cX0_init 91 = .ok (.putfield 40, 3) := by decide +kernel
theorem dX0_init_94 : decode cX0_init 94 = .ok (.aload_n 0, 1) := by decide +kernel
theorem dX0_init_95 : decode cX0_init 95 = .ok (.bipush 16, 2) := by decide +kernel
theorem dX0_init_97 : decode cX0_init 97 = .ok (.newarray .int, 2) := by decide +kernel
theorem dX0_init_99 : decode cX0_init 99 = .ok (.putfield 43, 3) := by decide +kernel
theorem dX0_init_102 : decode cX0_init 102 = .ok (.aload_n 0, 1) := by decide +kernel
theorem dX0_init_103 : decode cX0_init 103 = .ok (.bipush 16, 2) := by decide +kernel
theorem dX0_init_105 : decode cX0_init 105 = .ok (.newarray .int, 2) := by decide +kernel
theorem dX0_init_107 : decode cX0_init 107 = .ok (.putfield 46, 3) := by decide +kernel
theorem dX0_init_110 : decode cX0_init 110 = .ok (.aload_n 0, 1) := by decide +kernel
theorem dX0_init_111 : decode cX0_init 111 = .ok (.getfield 19, 3) := by decide +kernel
theorem dX0_init_114 : decode cX0_init 114 = .ok (.iconst 0, 1) := by decide +kernel
theorem dX0_init_115 : decode cX0_init 115 = .ok (.bipush 15, 2) := by decide +kernel
theorem dX0_init_117 : decode cX0_init 117 = .ok (.iastore, 1) := by decide +kernel
theorem dX0_init_118 : decode cX0_init 118 = .ok (.aload_n 0, 1) := by decide +kernel
theorem dX0_init_119 : decode cX0_init 119 = .ok (.getfield 19, 3) := by decide +kernel
theorem dX0_init_122 : decode cX0_init 122 = .ok (.iconst 1, 1) := by decide +kernel
theorem dX0_init_123 : decode cX0_init 123 = .ok (.bipush 15, 2) := by decide +kernel
theorem dX0_init_125 : decode cX0_init 125 = .ok (.iastore, 1) := by decide +kernel
theorem dX0_init_126 : decode cX0_init 126 = .ok (.return_, 1) := by decide +kernel
abbrev cX0_emit : ByteArray := prog_1_method_3_code
def yX0_emit : MethodName := ⟨RX0, "emit", "(II)I"⟩
theorem dX0_emit_0 : decode cX0_emit 0 = .ok (.iload_n 1, 1) := by decide +kernel
theorem dX0_emit_1 : decode cX0_emit 1 = .ok (.ifCond .lt 9, 3) := by decide +kernel
theorem dX0_emit_4 : decode cX0_emit 4 = .ok (.iload_n 1, 1) := by decide +kernel
theorem dX0_emit_5 : decode cX0_emit 5 = .ok (.bipush 14, 2) := by decide +kernel
theorem dX0_emit_7 : decode cX0_emit 7 = .ok (.if_icmp .le 5, 3) := by decide +kernel
theorem dX0_emit_10 : decode cX0_emit 10 = .ok (.iconst (-1), 1) := by decide +kernel
theorem dX0_emit_11 : decode cX0_emit 11 = .ok (.ireturn, 1) := by decide +kernel
theorem dX0_emit_12 : decode cX0_emit 12 = .ok (.aload_n 0, 1) := by decide +kernel
theorem dX0_emit_13 : decode cX0_emit 13 = .ok (.getfield 49, 3) := by decide +kernel
theorem dX0_emit_16 : decode cX0_emit 16 = .ok (.bipush 16, 2) := by decide +kernel
theorem dX0_emit_18 : decode cX0_emit 18 = .ok (.if_icmp .lt 6, 3) := by decide +kernel
theorem dX0_emit_21 : decode cX0_emit 21 = .ok (.bipush (-2), 2) := by decide +kernel
theorem dX0_emit_23 : decode cX0_emit 23 = .ok (.ireturn, 1) := by decide +kernel
theorem dX0_emit_24 : decode cX0_emit 24 = .ok (.aload_n 0, 1) := by decide +kernel
theorem dX0_emit_25 : decode cX0_emit 25 = .ok (.getfield 7, 3) := by decide +kernel
theorem dX0_emit_28 : decode cX0_emit 28 = .ok (.aload_n 0, 1) := by decide +kernel
theorem dX0_emit_29 : decode cX0_emit 29 = .ok (.getfield 49, 3) := by decide +kernel
theorem dX0_emit_32 : decode cX0_emit 32 = .ok (.iload_n 1, 1) := by decide +kernel
theorem dX0_emit_33 : decode cX0_emit 33 = .ok (.iastore, 1) := by decide +kernel
theorem dX0_emit_34 : decode cX0_emit 34 = .ok (.aload_n 0, 1) := by decide +kernel
theorem dX0_emit_35 : decode cX0_emit 35 = .ok (.getfield 13, 3) := by decide +kernel
theorem dX0_emit_38 : decode cX0_emit 38 = .ok (.aload_n 0, 1) := by decide +kernel
theorem dX0_emit_39 : decode cX0_emit 39 = .ok (.getfield 49, 3) := by decide +kernel
theorem dX0_emit_42 : decode cX0_emit 42 = .ok (.iload_n 2, 1) := by decide +kernel
theorem dX0_emit_43 : decode cX0_emit 43 = .ok (.iastore, 1) := by decide +kernel
theorem dX0_emit_44 : decode cX0_emit 44 = .ok (.aload_n 0, 1) := by decide +kernel
theorem dX0_emit_45 : decode cX0_emit 45 = .ok (.dup, 1) := by decide +kernel
theorem dX0_emit_46 : decode cX0_emit 46 = .ok (.getfield 49, 3) := by decide +kernel
theorem dX0_emit_49 : decode cX0_emit 49 = .ok (.iconst 1, 1) := by decide +kernel
theorem dX0_emit_50 : decode cX0_emit 50 = .ok (.iadd, 1) := by decide +kernel
theorem dX0_emit_51 : decode cX0_emit 51 = .ok (.putfield 49, 3) := by decide +kernel
theorem dX0_emit_54 : decode cX0_emit 54 = .ok (.aload_n 0, 1) := by decide +kernel
theorem dX0_emit_55 : decode cX0_emit 55 = .ok (.iconst 0, 1) := by decide +kernel
theorem dX0_emit_56 : decode cX0_emit 56 = .ok (.putfield 53, 3) := by decide +kernel
theorem dX0_emit_59 : decode cX0_emit 59 = .ok (.aload_n 0, 1) := by decide +kernel
theorem dX0_emit_60 : decode cX0_emit 60 = .ok (.getfield 49, 3) := by decide +kernel
theorem dX0_emit_63 : decode cX0_emit 63 = .ok (.iconst 1, 1) := by decide +kernel
theorem dX0_emit_64 : decode cX0_emit 64 = .ok (.isub, 1) := by decide +kernel
theorem dX0_emit_65 : decode cX0_emit 65 = .ok (.ireturn, 1) := by decide +kernel
abbrev cX0_patch : ByteArray := prog_1_method_4_code
def yX0_patch : MethodName := ⟨RX0, "patch", "(II)I"⟩
theorem dX0_patch_0 : decode cX0_patch 0 = .ok (.aload_n 0, 1) := by decide +kernel
theorem dX0_patch_1 : decode cX0_patch 1 = .ok (.iload_n 1, 1) := by decide +kernel
theorem dX0_patch_2 : decode cX0_patch 2 = .ok (.invokevirtual 57, 3) := by decide +kernel
theorem dX0_patch_5 : decode cX0_patch 5 = .ok (.ifCond .eq 6, 3) := by decide +kernel
theorem dX0_patch_8 : decode cX0_patch 8 = .ok (.bipush (-3), 2) := by decide +kernel
theorem dX0_patch_10 : decode cX0_patch 10 = .ok (.ireturn, 1) := by decide +kernel
theorem dX0_patch_11 : decode cX0_patch 11 = .ok (.aload_n 0, 1) := by decide +kernel
theorem dX0_patch_12 : decode cX0_patch 12 = .ok (.getfield 13, 3) := by decide +kernel
theorem dX0_patch_15 : decode cX0_patch 15 = .ok (.iload_n 1, 1) := by decide +kernel
theorem dX0_patch_16 : decode cX0_patch 16 = .ok (.iaload, 1) := by decide +kernel
theorem dX0_patch_17 : decode cX0_patch 17 = .ok (.istore_n 3, 1) := by decide +kernel
theorem dX0_patch_18 : decode cX0_patch 18 = .ok (.aload_n 0, 1) := by decide +kernel
theorem dX0_patch_19 : decode cX0_patch 19 = .ok (.getfield 13, 3) := by decide +kernel
theorem dX0_patch_22 : decode cX0_patch 22 = .ok (.iload_n 1, 1) := by decide +kernel
theorem dX0_patch_23 : decode cX0_patch 23 = .ok (.iload_n 2, 1) := by decide +kernel
theorem dX0_patch_24 : decode cX0_patch 24 = .ok (.iastore, 1) := by decide +kernel
theorem dX0_patch_25 : decode cX0_patch 25 = .ok (.aload_n 0, 1) := by decide +kernel
theorem dX0_patch_26 : decode cX0_patch 26 = .ok (.iconst 0, 1) := by decide +kernel
theorem dX0_patch_27 : decode cX0_patch 27 = .ok (.putfield 53, 3) := by decide +kernel
theorem dX0_patch_30 : decode cX0_patch 30 = .ok (.iload_n 3, 1) := by decide +kernel
theorem dX0_patch_31 : decode cX0_patch 31 = .ok (.ireturn, 1) := by decide +kernel
abbrev cX0_noInstruction : ByteArray := prog_1_method_2_code
def yX0_noInstruction : MethodName := ⟨RX0, "noInstruction", "(I)Z"⟩
theorem dX0_noInstruction_0 : decode cX0_noInstruction 0 = .ok (.iload_n 1, 1) := by decide +kernel
theorem dX0_noInstruction_1 : decode cX0_noInstruction 1 = .ok (.ifCond .lt 11, 3) := by decide +kernel
theorem dX0_noInstruction_4 : decode cX0_noInstruction 4 = .ok (.iload_n 1, 1) := by decide +kernel
theorem dX0_noInstruction_5 : decode cX0_noInstruction 5 = .ok (.aload_n 0, 1) := by decide +kernel
theorem dX0_noInstruction_6 : decode cX0_noInstruction 6 = .ok (.getfield 49, 3) := by decide +kernel
theorem dX0_noInstruction_9 : decode cX0_noInstruction 9 = .ok (.if_icmp .lt 7, 3) := by decide +kernel
theorem dX0_noInstruction_12 : decode cX0_noInstruction 12 = .ok (.iconst 1, 1) := by decide +kernel
theorem dX0_noInstruction_13 : decode cX0_noInstruction 13 = .ok (.goto 4, 3) := by decide +kernel
theorem dX0_noInstruction_16 : decode cX0_noInstruction 16 = .ok (.iconst 0, 1) := by decide +kernel
theorem dX0_noInstruction_17 : decode cX0_noInstruction 17 = .ok (.ireturn, 1) := by decide +kernel
abbrev cX0_begin : ByteArray := prog_1_method_5_code
def yX0_begin : MethodName := ⟨RX0, "begin", "(III)I"⟩
theorem dX0_begin_0 : decode cX0_begin 0 = .ok (.iload_n 1, 1) := by decide +kernel
theorem dX0_begin_1 : decode cX0_begin 1 = .ok (.ifCond .lt 23, 3) := by decide +kernel
theorem dX0_begin_4 : decode cX0_begin 4 = .ok (.iload_n 1, 1) := by decide +kernel
theorem dX0_begin_5 : decode cX0_begin 5 = .ok (.iconst 1, 1) := by decide +kernel
theorem dX0_begin_6 : decode cX0_begin 6 = .ok (.if_icmp .gt 18, 3) := by decide +kernel
theorem dX0_begin_9 : decode cX0_begin 9 = .ok (.iload_n 2, 1) := by decide +kernel
theorem dX0_begin_10 : decode cX0_begin 10 = .ok (.ifCond .lt 14, 3) := by decide +kernel
theorem dX0_begin_13 : decode cX0_begin 13 = .ok (.iload_n 2, 1) := by decide +kernel
theorem dX0_begin_14 : decode cX0_begin 14 = .ok (.iload_n 3, 1) := by decide +kernel
theorem dX0_begin_15 : decode cX0_begin 15 = .ok (.if_icmp .gt 9, 3) := by decide +kernel
theorem dX0_begin_18 : decode cX0_begin 18 = .ok (.iload_n 3, 1) := by decide +kernel
theorem dX0_begin_19 : decode cX0_begin 19 = .ok (.bipush 15, 2) := by decide +kernel
theorem dX0_begin_21 : decode cX0_begin 21 = .ok (.if_icmp .le 6, 3) := by decide +kernel
theorem dX0_begin_24 : decode cX0_begin 24 = .ok (.bipush (-4), 2) := by decide +kernel
theorem dX0_begin_26 : decode cX0_begin 26 = .ok (.ireturn, 1) := by decide +kernel
theorem dX0_begin_27 : decode cX0_begin 27 = .ok (.aload_n 0, 1) := by decide +kernel
theorem dX0_begin_28 : decode cX0_begin 28 = .ok (.getfield 16, 3) := by decide +kernel
theorem dX0_begin_31 : decode cX0_begin 31 = .ok (.iload_n 1, 1) := by decide +kernel
theorem dX0_begin_32 : decode cX0_begin 32 = .ok (.iload_n 2, 1) := by decide +kernel
theorem dX0_begin_33 : decode cX0_begin 33 = .ok (.iastore, 1) := by decide +kernel
theorem dX0_begin_34 : decode cX0_begin 34 = .ok (.aload_n 0, 1) := by decide +kernel
theorem dX0_begin_35 : decode cX0_begin 35 = .ok (.getfield 19, 3) := by decide +kernel
theorem dX0_begin_38 : decode cX0_begin 38 = .ok (.iload_n 1, 1) := by decide +kernel
theorem dX0_begin_39 : decode cX0_begin 39 = .ok (.iload_n 3, 1) := by decide +kernel
theorem dX0_begin_40 : decode cX0_begin 40 = .ok (.iastore, 1) := by decide +kernel
theorem dX0_begin_41 : decode cX0_begin 41 = .ok (.aload_n 0, 1) := by decide +kernel
theorem dX0_begin_42 : decode cX0_begin 42 = .ok (.iconst 0, 1) := by decide +kernel
theorem dX0_begin_43 : decode cX0_begin 43 = .ok (.putfield 53, 3) := by decide +kernel
theorem dX0_begin_46 : decode cX0_begin 46 = .ok (.iconst 0, 1) := by decide +kernel
theorem dX0_begin_47 : decode cX0_begin 47 = .ok (.ireturn, 1) := by decide +kernel
abbrev cX0_clear : ByteArray := prog_1_method_6_code
def yX0_clear : MethodName := ⟨RX0, "clear", "()V"⟩
theorem dX0_clear_0 : decode cX0_clear 0 = .ok (.aload_n 0, 1) := by decide +kernel
theorem dX0_clear_1 : decode cX0_clear 1 = .ok (.iconst 0, 1) := by decide +kernel
theorem dX0_clear_2 : decode cX0_clear 2 = .ok (.putfield 49, 3) := by decide +kernel
theorem dX0_clear_5 : decode cX0_clear 5 = .ok (.aload_n 0, 1) := by decide +kernel
theorem dX0_clear_6 : decode cX0_clear 6 = .ok (.iconst 0, 1) := by decide +kernel
theorem dX0_clear_7 : decode cX0_clear 7 = .ok (.putfield 53, 3) := by decide +kernel
theorem dX0_clear_10 : decode cX0_clear 10 = .ok (.return_, 1) := by decide +kernel
abbrev cX0_states : ByteArray := prog_1_method_25_code
def yX0_states : MethodName := ⟨RX0, "states", "(I)I"⟩
theorem dX0_states_0 : decode cX0_states 0 = .ok (.aload_n 0, 1) := by decide +kernel
theorem dX0_states_1 : decode cX0_states 1 = .ok (.iload_n 1, 1) := by decide +kernel
theorem dX0_states_2 : decode cX0_states 2 = .ok (.invokevirtual 57, 3) := by decide +kernel
theorem dX0_states_5 : decode cX0_states 5 = .ok (.ifCond .eq 6, 3) := by decide +kernel
theorem dX0_states_8 : decode cX0_states 8 = .ok (.bipush (-3), 2) := by decide +kernel
theorem dX0_states_10 : decode cX0_states 10 = .ok (.ireturn, 1) := by decide +kernel
theorem dX0_states_11 : decode cX0_states 11 = .ok (.aload_n 0, 1) := by decide +kernel
theorem dX0_states_12 : decode cX0_states 12 = .ok (.invokevirtual 120, 3) := by decide +kernel
theorem dX0_states_15 : decode cX0_states 15 = .ok (.iconst 0, 1) := by decide +kernel
theorem dX0_states_16 : decode cX0_states 16 = .ok (.istore_n 2, 1) := by decide +kernel
theorem dX0_states_17 : decode cX0_states 17 = .ok (.iconst 0, 1) := by decide +kernel
theorem dX0_states_18 : decode cX0_states 18 = .ok (.istore_n 3, 1) := by decide +kernel
theorem dX0_states_19 : decode cX0_states 19 = .ok (.iload_n 3, 1) := by decide +kernel
theorem dX0_states_20 : decode cX0_states 20 = .ok (.bipush 16, 2) := by decide +kernel
theorem dX0_states_22 : decode cX0_states 22 = .ok (.if_icmp .ge 26, 3) := by decide +kernel
theorem dX0_states_25 : decode cX0_states 25 = .ok (.iload_n 2, 1) := by decide +kernel
theorem dX0_states_26 : decode cX0_states 26 = .ok (.aload_n 0, 1) := by decide +kernel
theorem dX0_states_27 : decode cX0_states 27 = .ok (.getfield 22, 3) := by decide +kernel
theorem dX0_states_30 : decode cX0_states 30 = .ok (.iload_n 1, 1) := by decide +kernel
theorem dX0_states_31 : decode cX0_states 31 = .ok (.bipush 16, 2) := by decide +kernel
theorem dX0_states_33 : decode cX0_states 33 = .ok (.imul, 1) := by decide +kernel
theorem dX0_states_34 : decode cX0_states 34 = .ok (.iload_n 3, 1) := by decide +kernel
theorem dX0_states_35 : decode cX0_states 35 = .ok (.iadd, 1) := by decide +kernel
theorem dX0_states_36 : decode cX0_states 36 = .ok (.iaload, 1) := by decide +kernel
theorem dX0_states_37 : decode cX0_states 37 = .ok (.invokestatic 123, 3) := by decide +kernel
theorem dX0_states_40 : decode cX0_states 40 = .ok (.iadd, 1) := by decide +kernel
theorem dX0_states_41 : decode cX0_states 41 = .ok (.istore_n 2, 1) := by decide +kernel
theorem dX0_states_42 : decode cX0_states 42 = .ok (.iinc 3 1, 3) := by decide +kernel
theorem dX0_states_45 : decode cX0_states 45 = .ok (.goto (-26), 3) := by decide +kernel
theorem dX0_states_48 : decode cX0_states 48 = .ok (.iload_n 2, 1) := by decide +kernel
theorem dX0_states_49 : decode cX0_states 49 = .ok (.ireturn, 1) := by decide +kernel
abbrev cX0_prepare : ByteArray := prog_1_method_20_code
def yX0_prepare : MethodName := ⟨RX0, "prepare", "()V"⟩
theorem dX0_prepare_0 : decode cX0_prepare 0 = .ok (.aload_n 0, 1) := by decide +kernel
theorem dX0_prepare_1 : decode cX0_prepare 1 = .ok (.getfield 53, 3) := by decide +kernel
theorem dX0_prepare_4 : decode cX0_prepare 4 = .ok (.ifCond .eq 4, 3) := by decide +kernel
theorem dX0_prepare_7 : decode cX0_prepare 7 = .ok (.return_, 1) := by decide +kernel
theorem dX0_prepare_8 : decode cX0_prepare 8 = .ok (.aload_n 0, 1) := by decide +kernel
theorem dX0_prepare_9 : decode cX0_prepare 9 = .ok (.iconst 1, 1) := by decide +kernel
theorem dX0_prepare_10 : decode cX0_prepare 10 = .ok (.putfield 53, 3) := by decide +kernel
theorem dX0_prepare_13 : decode cX0_prepare 13 = .ok (.aload_n 0, 1) := by decide +kernel
theorem dX0_prepare_14 : decode cX0_prepare 14 = .ok (.iconst 0, 1) := by decide +kernel
theorem dX0_prepare_15 : decode cX0_prepare 15 = .ok (.putfield 86, 3) := by decide +kernel
theorem dX0_prepare_18 : decode cX0_prepare 18 = .ok (.iconst 0, 1) := by decide +kernel
theorem dX0_prepare_19 : decode cX0_prepare 19 = .ok (.istore_n 1, 1) := by decide +kernel
theorem dX0_prepare_20 : decode cX0_prepare 20 = .ok (.iload_n 1, 1) := by decide +kernel
theorem dX0_prepare_21 : decode cX0_prepare 21 = .ok (.sipush 256, 3) := by decide +kernel
theorem dX0_prepare_24 : decode cX0_prepare 24 = .ok (.if_icmp .ge 23, 3) := by decide +kernel
theorem dX0_prepare_27 : decode cX0_prepare 27 = .ok (.aload_n 0, 1) := by decide +kernel
theorem dX0_prepare_28 : decode cX0_prepare 28 = .ok (.getfield 22, 3) := by decide +kernel
theorem dX0_prepare_31 : decode cX0_prepare 31 = .ok (.iload_n 1, 1) := by decide +kernel
theorem dX0_prepare_32 : decode cX0_prepare 32 = .ok (.iconst 0, 1) := by decide +kernel
theorem dX0_prepare_33 : decode cX0_prepare 33 = .ok (.iastore, 1) := by decide +kernel
theorem dX0_prepare_34 : decode cX0_prepare 34 = .ok (.aload_n 0, 1) := by decide +kernel
theorem dX0_prepare_35 : decode cX0_prepare 35 = .ok (.getfield 28, 3) := by decide +kernel
theorem dX0_prepare_38 : decode cX0_prepare 38 = .ok (.iload_n 1, 1) := by decide +kernel
theorem dX0_prepare_39 : decode cX0_prepare 39 = .ok (.iconst 0, 1) := by decide +kernel
theorem dX0_prepare_40 : decode cX0_prepare 40 = .ok (.iastore, 1) := by decide +kernel
theorem dX0_prepare_41 : decode cX0_prepare 41 = .ok (.iinc 1 1, 3) := by decide +kernel
theorem dX0_prepare_44 : decode cX0_prepare 44 = .ok (.goto (-24), 3) := by decide +kernel
theorem dX0_prepare_47 : decode cX0_prepare 47 = .ok (.iconst 0, 1) := by decide +kernel
theorem dX0_prepare_48 : decode cX0_prepare 48 = .ok (.istore_n 1, 1) := by decide +kernel
theorem dX0_prepare_49 : decode cX0_prepare 49 = .ok (.iload_n 1, 1) := by decide +kernel
theorem dX0_prepare_50 : decode cX0_prepare 50 = .ok (.bipush 16, 2) := by decide +kernel
theorem dX0_prepare_52 : decode cX0_prepare 52 = .ok (.if_icmp .ge 17, 3) := by decide +kernel
theorem dX0_prepare_55 : decode cX0_prepare 55 = .ok (.aload_n 0, 1) := by decide +kernel
theorem dX0_prepare_56 : decode cX0_prepare 56 = .ok (.getfield 34, 3) := by decide +kernel
theorem dX0_prepare_59 : decode cX0_prepare 59 = .ok (.iload_n 1, 1) := by decide +kernel
theorem dX0_prepare_60 : decode cX0_prepare 60 = .ok (.bipush (-5), 2) := by decide +kernel
theorem dX0_prepare_62 : decode cX0_prepare 62 = .ok (.iastore, 1) := by decide +kernel
theorem dX0_prepare_63 : decode cX0_prepare 63 = .ok (.iinc 1 1, 3) := by decide +kernel
theorem dX0_prepare_66 : decode cX0_prepare 66 = .ok (.goto (-17), 3) := by decide +kernel
theorem dX0_prepare_69 : decode cX0_prepare 69 = .ok (.iconst 0, 1) := by decide +kernel
theorem dX0_prepare_70 : decode cX0_prepare 70 = .ok (.istore_n 1, 1) := by decide +kernel
theorem dX0_prepare_71 : decode cX0_prepare 71 = .ok (.aload_n 0, 1) := by decide +kernel
theorem dX0_prepare_72 : decode cX0_prepare 72 = .ok (.getfield 16, 3) := by decide +kernel
theorem dX0_prepare_75 : decode cX0_prepare 75 = .ok (.iconst 1, 1) := by decide +kernel
theorem dX0_prepare_76 : decode cX0_prepare 76 = .ok (.iaload, 1) := by decide +kernel
theorem dX0_prepare_77 : decode cX0_prepare 77 = .ok (.istore_n 2, 1) := by decide +kernel
theorem dX0_prepare_78 : decode cX0_prepare 78 = .ok (.iload_n 2, 1) := by decide +kernel
theorem dX0_prepare_79 : decode cX0_prepare 79 = .ok (.aload_n 0, 1) := by decide +kernel
theorem dX0_prepare_80 : decode cX0_prepare 80 = .ok (.getfield 19, 3) := by decide +kernel
theorem dX0_prepare_83 : decode cX0_prepare 83 = .ok (.iconst 1, 1) := by decide +kernel
theorem dX0_prepare_84 : decode cX0_prepare 84 = .ok (.iaload, 1) := by decide +kernel
theorem dX0_prepare_85 : decode cX0_prepare 85 = .ok (.if_icmp .gt 15, 3) := by decide +kernel
theorem dX0_prepare_88 : decode cX0_prepare 88 = .ok (.iload_n 1, 1) := by decide +kernel
theorem dX0_prepare_89 : decode cX0_prepare 89 = .ok (.iconst 1, 1) := by decide +kernel
theorem dX0_prepare_90 : decode cX0_prepare 90 = .ok (.iload_n 2, 1) := by decide +kernel
theorem dX0_prepare_91 : decode cX0_prepare 91 = .ok (.ishl, 1) := by decide +kernel
theorem dX0_prepare_92 : decode cX0_prepare 92 = .ok (.ior, 1) := by decide +kernel
theorem dX0_prepare_93 : decode cX0_prepare 93 = .ok (.istore_n 1, 1) := by decide +kernel
theorem dX0_prepare_94 : decode cX0_prepare 94 = .ok (.iinc 2 1, 3) := by decide +kernel
theorem dX0_prepare_97 : decode cX0_prepare 97 = .ok (.goto (-19), 3) := by decide +kernel
theorem dX0_prepare_100 : decode cX0_prepare 100 = .ok (.aload_n 0, 1) := by decide +kernel
theorem dX0_prepare_101 : decode cX0_prepare 101 = .ok (.getfield 16, 3) := by decide +kernel
theorem dX0_prepare_104 : decode cX0_prepare 104 = .ok (.iconst 0, 1) := by decide +kernel
theorem dX0_prepare_105 : decode cX0_prepare 105 = .ok (.iaload, 1) := by decide +kernel
theorem dX0_prepare_106 : decode cX0_prepare 106 = .ok (.istore_n 2, 1) := by decide +kernel
theorem dX0_prepare_107 : decode cX0_prepare 107 = .ok (.iload_n 2, 1) := by decide +kernel
theorem dX0_prepare_108 : decode cX0_prepare 108 = .ok (.aload_n 0, 1) := by decide +kernel
theorem dX0_prepare_109 : decode cX0_prepare 109 = .ok (.getfield 19, 3) := by decide +kernel
theorem dX0_prepare_112 : decode cX0_prepare 112 = .ok (.iconst 0, 1) := by decide +kernel
theorem dX0_prepare_113 : decode cX0_prepare 113 = .ok (.iaload, 1) := by decide +kernel
theorem dX0_prepare_114 : decode cX0_prepare 114 = .ok (.if_icmp .gt 23, 3) := by decide +kernel
theorem dX0_prepare_117 : decode cX0_prepare 117 = .ok (.aload_n 0, 1) := by decide +kernel
theorem dX0_prepare_118 : decode cX0_prepare 118 = .ok (.getfield 49, 3) := by decide +kernel
theorem dX0_prepare_121 : decode cX0_prepare 121 = .ok (.ifCond .le 16, 3) := by decide +kernel
theorem dX0_prepare_124 : decode cX0_prepare 124 = .ok (.aload_n 0, 1) := by decide +kernel
theorem dX0_prepare_125 : decode cX0_prepare 125 = .ok (.getfield 28, 3) := by decide +kernel
theorem dX0_prepare_128 : decode cX0_prepare 128 = .ok (.iload_n 2, 1) := by decide +kernel
theorem dX0_prepare_129 : decode cX0_prepare 129 = .ok (.iload_n 1, 1) := by decide +kernel
theorem dX0_prepare_130 : decode cX0_prepare 130 = .ok (.iastore, 1) := by decide +kernel
theorem dX0_prepare_131 : decode cX0_prepare 131 = .ok (.iinc 2 1, 3) := by decide +kernel
theorem dX0_prepare_134 : decode cX0_prepare 134 = .ok (.goto (-27), 3) := by decide +kernel
theorem dX0_prepare_137 : decode cX0_prepare 137 = .ok (.aload_n 0, 1) := by decide +kernel
theorem dX0_prepare_138 : decode cX0_prepare 138 = .ok (.iconst 0, 1) := by decide +kernel
theorem dX0_prepare_139 : decode cX0_prepare 139 = .ok (.invokevirtual 100, 3) := by decide +kernel
theorem dX0_prepare_142 : decode cX0_prepare 142 = .ok (.istore_n 2, 1) := by decide +kernel
theorem dX0_prepare_143 : decode cX0_prepare 143 = .ok (.iconst 1, 1) := by decide +kernel
theorem dX0_prepare_144 : decode cX0_prepare 144 = .ok (.istore_n 3, 1) := by decide +kernel
theorem dX0_prepare_145 : decode cX0_prepare 145 = .ok (.iload_n 3, 1) := by decide +kernel
theorem dX0_prepare_146 : decode cX0_prepare 146 = .ok (.sipush 4096, 3) := by decide +kernel
theorem dX0_prepare_149 : decode cX0_prepare 149 = .ok (.if_icmp .gt 23, 3) := by decide +kernel
theorem dX0_prepare_152 : decode cX0_prepare 152 = .ok (.iload_n 2, 1) := by decide +kernel
theorem dX0_prepare_153 : decode cX0_prepare 153 = .ok (.ifCond .eq 19, 3) := by decide +kernel
theorem dX0_prepare_156 : decode cX0_prepare 156 = .ok (.aload_n 0, 1) := by decide +kernel
theorem dX0_prepare_157 : decode cX0_prepare 157 = .ok (.invokevirtual 103, 3) := by decide +kernel
theorem dX0_prepare_160 : decode cX0_prepare 160 = .ok (.aload_n 0, 1) := by decide +kernel
theorem dX0_prepare_161 : decode cX0_prepare 161 = .ok (.iload_n 3, 1) := by decide +kernel
theorem dX0_prepare_162 : decode cX0_prepare 162 = .ok (.invokevirtual 100, 3) := by decide +kernel
theorem dX0_prepare_165 : decode cX0_prepare 165 = .ok (.istore_n 2, 1) := by decide +kernel
theorem dX0_prepare_166 : decode cX0_prepare 166 = .ok (.iinc 3 1, 3) := by decide +kernel
theorem dX0_prepare_169 : decode cX0_prepare 169 = .ok (.goto (-24), 3) := by decide +kernel
theorem dX0_prepare_172 : decode cX0_prepare 172 = .ok (.aload_n 0, 1) := by decide +kernel
theorem dX0_prepare_173 : decode cX0_prepare 173 = .ok (.invokevirtual 106, 3) := by decide +kernel
theorem dX0_prepare_176 : decode cX0_prepare 176 = .ok (.return_, 1) := by decide +kernel
abbrev cX0_settle : ByteArray := prog_1_method_19_code
def yX0_settle : MethodName := ⟨RX0, "settle", "(I)Z"⟩
theorem dX0_settle_0 : decode cX0_settle 0 = .ok (.iconst 0, 1) := by decide +kernel
theorem dX0_settle_1 : decode cX0_settle 1 = .ok (.istore_n 2, 1) := by decide +kernel
theorem dX0_settle_2 : decode cX0_settle 2 = .ok (.iconst 0, 1) := by decide +kernel
theorem dX0_settle_3 : decode cX0_settle 3 = .ok (.istore_n 3, 1) := by decide +kernel
theorem dX0_settle_4 : decode cX0_settle 4 = .ok (.iload_n 3, 1) := by decide +kernel
theorem dX0_settle_5 : decode cX0_settle 5 = .ok (.sipush 256, 3) := by decide +kernel
theorem dX0_settle_8 : decode cX0_settle 8 = .ok (.if_icmp .ge 80, 3) := by decide +kernel
theorem dX0_settle_11 : decode cX0_settle 11 = .ok (.aload_n 0, 1) := by decide +kernel
theorem dX0_settle_12 : decode cX0_settle 12 = .ok (.getfield 25, 3) := by decide +kernel
theorem dX0_settle_15 : decode cX0_settle 15 = .ok (.iload_n 3, 1) := by decide +kernel
theorem dX0_settle_16 : decode cX0_settle 16 = .ok (.aload_n 0, 1) := by decide +kernel
theorem dX0_settle_17 : decode cX0_settle 17 = .ok (.getfield 28, 3) := by decide +kernel
theorem dX0_settle_20 : decode cX0_settle 20 = .ok (.iload_n 3, 1) := by decide +kernel
theorem dX0_settle_21 : decode cX0_settle 21 = .ok (.iaload, 1) := by decide +kernel
theorem dX0_settle_22 : decode cX0_settle 22 = .ok (.aload_n 0, 1) := by decide +kernel
theorem dX0_settle_23 : decode cX0_settle 23 = .ok (.getfield 22, 3) := by decide +kernel
theorem dX0_settle_26 : decode cX0_settle 26 = .ok (.iload_n 3, 1) := by decide +kernel
theorem dX0_settle_27 : decode cX0_settle 27 = .ok (.iaload, 1) := by decide +kernel
theorem dX0_settle_28 : decode cX0_settle 28 = .ok (.iconst (-1), 1) := by decide +kernel
theorem dX0_settle_29 : decode cX0_settle 29 = .ok (.ixor, 1) := by decide +kernel
theorem dX0_settle_30 : decode cX0_settle 30 = .ok (.iand, 1) := by decide +kernel
theorem dX0_settle_31 : decode cX0_settle 31 = .ok (.iastore, 1) := by decide +kernel
theorem dX0_settle_32 : decode cX0_settle 32 = .ok (.aload_n 0, 1) := by decide +kernel
theorem dX0_settle_33 : decode cX0_settle 33 = .ok (.getfield 22, 3) := by decide +kernel
theorem dX0_settle_36 : decode cX0_settle 36 = .ok (.iload_n 3, 1) := by decide +kernel
theorem dX0_settle_37 : decode cX0_settle 37 = .ok (.dup2, 1) := by decide +kernel
theorem dX0_settle_38 : decode cX0_settle 38 = .ok (.iaload, 1) := by decide +kernel
theorem dX0_settle_39 : decode cX0_settle 39 = .ok (.aload_n 0, 1) := by decide +kernel
theorem dX0_settle_40 : decode cX0_settle 40 = .ok (.getfield 25, 3) := by decide +kernel
theorem dX0_settle_43 : decode cX0_settle 43 = .ok (.iload_n 3, 1) := by decide +kernel
theorem dX0_settle_44 : decode cX0_settle 44 = .ok (.iaload, 1) := by decide +kernel
theorem dX0_settle_45 : decode cX0_settle 45 = .ok (.ior, 1) := by decide +kernel
theorem dX0_settle_46 : decode cX0_settle 46 = .ok (.iastore, 1) := by decide +kernel
theorem dX0_settle_47 : decode cX0_settle 47 = .ok (.aload_n 0, 1) := by decide +kernel
theorem dX0_settle_48 : decode cX0_settle 48 = .ok (.getfield 25, 3) := by decide +kernel
theorem dX0_settle_51 : decode cX0_settle 51 = .ok (.iload_n 3, 1) := by decide +kernel
theorem dX0_settle_52 : decode cX0_settle 52 = .ok (.iaload, 1) := by decide +kernel
theorem dX0_settle_53 : decode cX0_settle 53 = .ok (.ifCond .eq 29, 3) := by decide +kernel
theorem dX0_settle_56 : decode cX0_settle 56 = .ok (.iconst 1, 1) := by decide +kernel
theorem dX0_settle_57 : decode cX0_settle 57 = .ok (.istore_n 2, 1) := by decide +kernel
theorem dX0_settle_58 : decode cX0_settle 58 = .ok (.aload_n 0, 1) := by decide +kernel
theorem dX0_settle_59 : decode cX0_settle 59 = .ok (.getfield 34, 3) := by decide +kernel
theorem dX0_settle_62 : decode cX0_settle 62 = .ok (.iload_n 3, 1) := by decide +kernel
theorem dX0_settle_63 : decode cX0_settle 63 = .ok (.bipush 16, 2) := by decide +kernel
theorem dX0_settle_65 : decode cX0_settle 65 = .ok (.idiv, 1) := by decide +kernel
theorem dX0_settle_66 : decode cX0_settle 66 = .ok (.iaload, 1) := by decide +kernel
theorem dX0_settle_67 : decode cX0_settle 67 = .ok (.bipush (-5), 2) := by decide +kernel
theorem dX0_settle_69 : decode cX0_settle 69 = .ok (.if_icmp .ne 13, 3) := by decide +kernel
theorem dX0_settle_72 : decode cX0_settle 72 = .ok (.aload_n 0, 1) := by decide +kernel
theorem dX0_settle_73 : decode cX0_settle 73 = .ok (.getfield 34, 3) := by decide +kernel
theorem dX0_settle_76 : decode cX0_settle 76 = .ok (.iload_n 3, 1) := by decide +kernel
theorem dX0_settle_77 : decode cX0_settle 77 = .ok (.bipush 16, 2) := by decide +kernel
theorem dX0_settle_79 : decode cX0_settle 79 = .ok (.idiv, 1) := by decide +kernel
theorem dX0_settle_80 : decode cX0_settle 80 = .ok (.iload_n 1, 1) := by decide +kernel
theorem dX0_settle_81 : decode cX0_settle 81 = .ok (.iastore, 1) := by decide +kernel
theorem dX0_settle_82 : decode cX0_settle 82 = .ok (.iinc 3 1, 3) := by decide +kernel
theorem dX0_settle_85 : decode cX0_settle 85 = .ok (.goto (-81), 3) := by decide +kernel
theorem dX0_settle_88 : decode cX0_settle 88 = .ok (.iload_n 2, 1) := by decide +kernel
theorem dX0_settle_89 : decode cX0_settle 89 = .ok (.ireturn, 1) := by decide +kernel
abbrev cX0_passOn : ByteArray := prog_1_method_18_code
def yX0_passOn : MethodName := ⟨RX0, "passOn", "()V"⟩
theorem dX0_passOn_0 : decode cX0_passOn 0 = .ok (.iconst 0, 1) := by decide +kernel
theorem dX0_passOn_1 : decode cX0_passOn 1 = .ok (.istore_n 1, 1) := by decide +kernel
theorem dX0_passOn_2 : decode cX0_passOn 2 = .ok (.iload_n 1, 1) := by decide +kernel
theorem dX0_passOn_3 : decode cX0_passOn 3 = .ok (.sipush 256, 3) := by decide +kernel
theorem dX0_passOn_6 : decode cX0_passOn 6 = .ok (.if_icmp .ge 16, 3) := by decide +kernel
theorem dX0_passOn_9 : decode cX0_passOn 9 = .ok (.aload_n 0, 1) := by decide +kernel
theorem dX0_passOn_10 : decode cX0_passOn 10 = .ok (.getfield 28, 3) := by decide +kernel
theorem dX0_passOn_13 : decode cX0_passOn 13 = .ok (.iload_n 1, 1) := by decide +kernel
theorem dX0_passOn_14 : decode cX0_passOn 14 = .ok (.iconst 0, 1) := by decide +kernel
theorem dX0_passOn_15 : decode cX0_passOn 15 = .ok (.iastore, 1) := by decide +kernel
theorem dX0_passOn_16 : decode cX0_passOn 16 = .ok (.iinc 1 1, 3) := by decide +kernel
theorem dX0_passOn_19 : decode cX0_passOn 19 = .ok (.goto (-17), 3) := by decide +kernel
theorem dX0_passOn_22 : decode cX0_passOn 22 = .ok (.iconst 0, 1) := by decide +kernel
theorem dX0_passOn_23 : decode cX0_passOn 23 = .ok (.istore_n 1, 1) := by decide +kernel
theorem dX0_passOn_24 : decode cX0_passOn 24 = .ok (.iload_n 1, 1) := by decide +kernel
theorem dX0_passOn_25 : decode cX0_passOn 25 = .ok (.aload_n 0, 1) := by decide +kernel
theorem dX0_passOn_26 : decode cX0_passOn 26 = .ok (.getfield 49, 3) := by decide +kernel
theorem dX0_passOn_29 : decode cX0_passOn 29 = .ok (.if_icmp .ge 59, 3) := by decide +kernel
theorem dX0_passOn_32 : decode cX0_passOn 32 = .ok (.aload_n 0, 1) := by decide +kernel
theorem dX0_passOn_33 : decode cX0_passOn 33 = .ok (.iload_n 1, 1) := by decide +kernel
theorem dX0_passOn_34 : decode cX0_passOn 34 = .ok (.invokevirtual 89, 3) := by decide +kernel
theorem dX0_passOn_37 : decode cX0_passOn 37 = .ok (.istore_n 2, 1) := by decide +kernel
theorem dX0_passOn_38 : decode cX0_passOn 38 = .ok (.iload_n 2, 1) := by decide +kernel
theorem dX0_passOn_39 : decode cX0_passOn 39 = .ok (.ifCond .eq 43, 3) := by decide +kernel
theorem dX0_passOn_42 : decode cX0_passOn 42 = .ok (.aload_n 0, 1) := by decide +kernel
theorem dX0_passOn_43 : decode cX0_passOn 43 = .ok (.iload_n 1, 1) := by decide +kernel
theorem dX0_passOn_44 : decode cX0_passOn 44 = .ok (.invokevirtual 92, 3) := by decide +kernel
theorem dX0_passOn_47 : decode cX0_passOn 47 = .ok (.aload_n 0, 1) := by decide +kernel
theorem dX0_passOn_48 : decode cX0_passOn 48 = .ok (.iload_n 1, 1) := by decide +kernel
theorem dX0_passOn_49 : decode cX0_passOn 49 = .ok (.iconst 1, 1) := by decide +kernel
theorem dX0_passOn_50 : decode cX0_passOn 50 = .ok (.iadd, 1) := by decide +kernel
theorem dX0_passOn_51 : decode cX0_passOn 51 = .ok (.iconst 0, 1) := by decide +kernel
theorem dX0_passOn_52 : decode cX0_passOn 52 = .ok (.invokevirtual 96, 3) := by decide +kernel
theorem dX0_passOn_55 : decode cX0_passOn 55 = .ok (.aload_n 0, 1) := by decide +kernel
theorem dX0_passOn_56 : decode cX0_passOn 56 = .ok (.aload_n 0, 1) := by decide +kernel
theorem dX0_passOn_57 : decode cX0_passOn 57 = .ok (.getfield 13, 3) := by decide +kernel
theorem dX0_passOn_60 : decode cX0_passOn 60 = .ok (.iload_n 1, 1) := by decide +kernel
theorem dX0_passOn_61 : decode cX0_passOn 61 = .ok (.iaload, 1) := by decide +kernel
theorem dX0_passOn_62 : decode cX0_passOn 62 = .ok (.iconst 1, 1) := by decide +kernel
theorem dX0_passOn_63 : decode cX0_passOn 63 = .ok (.invokevirtual 96, 3) := by decide +kernel
theorem dX0_passOn_66 : decode cX0_passOn 66 = .ok (.aload_n 0, 1) := by decide +kernel
theorem dX0_passOn_67 : decode cX0_passOn 67 = .ok (.getfield 7, 3) := by decide +kernel
theorem dX0_passOn_70 : decode cX0_passOn 70 = .ok (.iload_n 1, 1) := by decide +kernel
theorem dX0_passOn_71 : decode cX0_passOn 71 = .ok (.iaload, 1) := by decide +kernel
theorem dX0_passOn_72 : decode cX0_passOn 72 = .ok (.bipush 14, 2) := by decide +kernel
theorem dX0_passOn_74 : decode cX0_passOn 74 = .ok (.if_icmp .ne 8, 3) := by decide +kernel
theorem dX0_passOn_77 : decode cX0_passOn 77 = .ok (.aload_n 0, 1) := by decide +kernel
theorem dX0_passOn_78 : decode cX0_passOn 78 = .ok (.iconst 1, 1) := by decide +kernel
theorem dX0_passOn_79 : decode cX0_passOn 79 = .ok (.putfield 86, 3) := by decide +kernel
theorem dX0_passOn_82 : decode cX0_passOn 82 = .ok (.iinc 1 1, 3) := by decide +kernel
theorem dX0_passOn_85 : decode cX0_passOn 85 = .ok (.goto (-61), 3) := by decide +kernel
theorem dX0_passOn_88 : decode cX0_passOn 88 = .ok (.return_, 1) := by decide +kernel
abbrev cX0_takeFresh : ByteArray := prog_1_method_16_code
def yX0_takeFresh : MethodName := ⟨RX0, "takeFresh", "(I)Z"⟩
theorem dX0_takeFresh_0 : decode cX0_takeFresh 0 = .ok (.iconst 0, 1) := by decide +kernel
theorem dX0_takeFresh_1 : decode cX0_takeFresh 1 = .ok (.istore_n 2, 1) := by decide +kernel
theorem dX0_takeFresh_2 : decode cX0_takeFresh 2 = .ok (.iconst 0, 1) := by decide +kernel
theorem dX0_takeFresh_3 : decode cX0_takeFresh 3 = .ok (.istore_n 3, 1) := by decide +kernel
theorem dX0_takeFresh_4 : decode cX0_takeFresh 4 = .ok (.iload_n 3, 1) := by decide +kernel
theorem dX0_takeFresh_5 : decode cX0_takeFresh 5 = .ok (.bipush 16, 2) := by decide +kernel
theorem dX0_takeFresh_7 : decode cX0_takeFresh 7 = .ok (.if_icmp .ge 35, 3) := by decide +kernel
theorem dX0_takeFresh_10 : decode cX0_takeFresh 10 = .ok (.aload_n 0, 1) := by decide +kernel
theorem dX0_takeFresh_11 : decode cX0_takeFresh 11 = .ok (.getfield 37, 3) := by decide +kernel
theorem dX0_takeFresh_14 : decode cX0_takeFresh 14 = .ok (.iload_n 3, 1) := by decide +kernel
theorem dX0_takeFresh_15 : decode cX0_takeFresh 15 = .ok (.aload_n 0, 1) := by decide +kernel
theorem dX0_takeFresh_16 : decode cX0_takeFresh 16 = .ok (.getfield 25, 3) := by decide +kernel
theorem dX0_takeFresh_19 : decode cX0_takeFresh 19 = .ok (.iload_n 1, 1) := by decide +kernel
theorem dX0_takeFresh_20 : decode cX0_takeFresh 20 = .ok (.bipush 16, 2) := by decide +kernel
theorem dX0_takeFresh_22 : decode cX0_takeFresh 22 = .ok (.imul, 1) := by decide +kernel
theorem dX0_takeFresh_23 : decode cX0_takeFresh 23 = .ok (.iload_n 3, 1) := by decide +kernel
theorem dX0_takeFresh_24 : decode cX0_takeFresh 24 = .ok (.iadd, 1) := by decide +kernel
theorem dX0_takeFresh_25 : decode cX0_takeFresh 25 = .ok (.iaload, 1) := by decide +kernel
theorem dX0_takeFresh_26 : decode cX0_takeFresh 26 = .ok (.iastore, 1) := by decide +kernel
theorem dX0_takeFresh_27 : decode cX0_takeFresh 27 = .ok (.iload_n 2, 1) := by decide +kernel
theorem dX0_takeFresh_28 : decode cX0_takeFresh 28 = .ok (.aload_n 0, 1) := by decide +kernel
theorem dX0_takeFresh_29 : decode cX0_takeFresh 29 = .ok (.getfield 37, 3) := by decide +kernel
theorem dX0_takeFresh_32 : decode cX0_takeFresh 32 = .ok (.iload_n 3, 1) := by decide +kernel
theorem dX0_takeFresh_33 : decode cX0_takeFresh 33 = .ok (.iaload, 1) := by decide +kernel
theorem dX0_takeFresh_34 : decode cX0_takeFresh 34 = .ok (.ior, 1) := by decide +kernel
theorem dX0_takeFresh_35 : decode cX0_takeFresh 35 = .ok (.istore_n 2, 1) := by decide +kernel
theorem dX0_takeFresh_36 : decode cX0_takeFresh 36 = .ok (.iinc 3 1, 3) := by decide +kernel
theorem dX0_takeFresh_39 : decode cX0_takeFresh 39 = .ok (.goto (-35), 3) := by decide +kernel
theorem dX0_takeFresh_42 : decode cX0_takeFresh 42 = .ok (.iload_n 2, 1) := by decide +kernel
theorem dX0_takeFresh_43 : decode cX0_takeFresh 43 = .ok (.ifCond .eq 7, 3) := by decide +kernel
theorem dX0_takeFresh_46 : decode cX0_takeFresh 46 = .ok (.iconst 1, 1) := by decide +kernel
theorem dX0_takeFresh_47 : decode cX0_takeFresh 47 = .ok (.goto 4, 3) := by decide +kernel
theorem dX0_takeFresh_50 : decode cX0_takeFresh 50 = .ok (.iconst 0, 1) := by decide +kernel
theorem dX0_takeFresh_51 : decode cX0_takeFresh 51 = .ok (.ireturn, 1) := by decide +kernel
abbrev cX0_transfer : ByteArray := prog_1_method_10_code
def yX0_transfer : MethodName := ⟨RX0, "transfer", "(I)V"⟩
theorem dX0_transfer_0 : decode cX0_transfer 0 = .ok (.iconst 0, 1) := by decide +kernel
theorem dX0_transfer_1 : decode cX0_transfer 1 = .ok (.istore_n 2, 1) := by decide +kernel
theorem dX0_transfer_2 : decode cX0_transfer 2 = .ok (.iload_n 2, 1) := by decide +kernel
theorem dX0_transfer_3 : decode cX0_transfer 3 = .ok (.bipush 16, 2) := by decide +kernel
theorem dX0_transfer_5 : decode cX0_transfer 5 = .ok (.if_icmp .ge 30, 3) := by decide +kernel
theorem dX0_transfer_8 : decode cX0_transfer 8 = .ok (.aload_n 0, 1) := by decide +kernel
theorem dX0_transfer_9 : decode cX0_transfer 9 = .ok (.getfield 40, 3) := by decide +kernel
theorem dX0_transfer_12 : decode cX0_transfer 12 = .ok (.iload_n 2, 1) := by decide +kernel
theorem dX0_transfer_13 : decode cX0_transfer 13 = .ok (.iconst 0, 1) := by decide +kernel
theorem dX0_transfer_14 : decode cX0_transfer 14 = .ok (.iastore, 1) := by decide +kernel
theorem dX0_transfer_15 : decode cX0_transfer 15 = .ok (.aload_n 0, 1) := by decide +kernel
theorem dX0_transfer_16 : decode cX0_transfer 16 = .ok (.getfield 43, 3) := by decide +kernel
theorem dX0_transfer_19 : decode cX0_transfer 19 = .ok (.iload_n 2, 1) := by decide +kernel
theorem dX0_transfer_20 : decode cX0_transfer 20 = .ok (.iconst 0, 1) := by decide +kernel
theorem dX0_transfer_21 : decode cX0_transfer 21 = .ok (.iastore, 1) := by decide +kernel
theorem dX0_transfer_22 : decode cX0_transfer 22 = .ok (.aload_n 0, 1) := by decide +kernel
theorem dX0_transfer_23 : decode cX0_transfer 23 = .ok (.getfield 46, 3) := by decide +kernel
theorem dX0_transfer_26 : decode cX0_transfer 26 = .ok (.iload_n 2, 1) := by decide +kernel
theorem dX0_transfer_27 : decode cX0_transfer 27 = .ok (.iconst 0, 1) := by decide +kernel
theorem dX0_transfer_28 : decode cX0_transfer 28 = .ok (.iastore, 1) := by decide +kernel
theorem dX0_transfer_29 : decode cX0_transfer 29 = .ok (.iinc 2 1, 3) := by decide +kernel
theorem dX0_transfer_32 : decode cX0_transfer 32 = .ok (.goto (-30), 3) := by decide +kernel
theorem dX0_transfer_35 : decode cX0_transfer 35 = .ok (.aload_n 0, 1) := by decide +kernel
theorem dX0_transfer_36 : decode cX0_transfer 36 = .ok (.getfield 7, 3) := by decide +kernel
theorem dX0_transfer_39 : decode cX0_transfer 39 = .ok (.iload_n 1, 1) := by decide +kernel
theorem dX0_transfer_40 : decode cX0_transfer 40 = .ok (.iaload, 1) := by decide +kernel
theorem dX0_transfer_41 : decode cX0_transfer 41 = .ok (.istore_n 2, 1) := by decide +kernel
theorem dX0_transfer_42 : decode cX0_transfer 42 = .ok (.aload_n 0, 1) := by decide +kernel
theorem dX0_transfer_43 : decode cX0_transfer 43 = .ok (.getfield 13, 3) := by decide +kernel
theorem dX0_transfer_46 : decode cX0_transfer 46 = .ok (.iload_n 1, 1) := by decide +kernel
theorem dX0_transfer_47 : decode cX0_transfer 47 = .ok (.iaload, 1) := by decide +kernel
theorem dX0_transfer_48 : decode cX0_transfer 48 = .ok (.istore_n 3, 1) := by decide +kernel
theorem dX0_transfer_49 : decode cX0_transfer 49 = .ok (.iconst 0, 1) := by decide +kernel
theorem dX0_transfer_50 : decode cX0_transfer 50 = .ok (.istore 4, 2) := by decide +kernel
theorem dX0_transfer_52 : decode cX0_transfer 52 = .ok (.iload 4, 2) := by decide +kernel
theorem dX0_transfer_54 : decode cX0_transfer 54 = .ok (.bipush 16, 2) := by decide +kernel
theorem dX0_transfer_56 : decode cX0_transfer 56 = .ok (.if_icmp .ge 75, 3) := by decide +kernel
theorem dX0_transfer_59 : decode cX0_transfer 59 = .ok (.aload_n 0, 1) := by decide +kernel
theorem dX0_transfer_60 : decode cX0_transfer 60 = .ok (.getfield 37, 3) := by decide +kernel
theorem dX0_transfer_63 : decode cX0_transfer 63 = .ok (.iload 4, 2) := by decide +kernel
theorem dX0_transfer_65 : decode cX0_transfer 65 = .ok (.iaload, 1) := by decide +kernel
theorem dX0_transfer_66 : decode cX0_transfer 66 = .ok (.ifCond .eq 59, 3) := by decide +kernel
theorem dX0_transfer_69 : decode cX0_transfer 69 = .ok (.iload_n 2, 1) := by decide +kernel
theorem dX0_transfer_70 : decode cX0_transfer 70 = .ok (.iconst 2, 1) := by decide +kernel
theorem dX0_transfer_71 : decode cX0_transfer 71 = .ok (.if_icmp .gt 14, 3) := by decide +kernel
theorem dX0_transfer_74 : decode cX0_transfer 74 = .ok (.aload_n 0, 1) := by decide +kernel
theorem dX0_transfer_75 : decode cX0_transfer 75 = .ok (.iload_n 2, 1) := by decide +kernel
theorem dX0_transfer_76 : decode cX0_transfer 76 = .ok (.iload_n 3, 1) := by decide +kernel
theorem dX0_transfer_77 : decode cX0_transfer 77 = .ok (.iload 4, 2) := by decide +kernel
theorem dX0_transfer_79 : decode cX0_transfer 79 = .ok (.invokevirtual 62, 3) := by decide +kernel
theorem dX0_transfer_82 : decode cX0_transfer 82 = .ok (.goto 43, 3) := by decide +kernel
theorem dX0_transfer_85 : decode cX0_transfer 85 = .ok (.iload_n 2, 1) := by decide +kernel
theorem dX0_transfer_86 : decode cX0_transfer 86 = .ok (.bipush 7, 2) := by decide +kernel
theorem dX0_transfer_88 : decode cX0_transfer 88 = .ok (.if_icmp .gt 13, 3) := by decide +kernel
theorem dX0_transfer_91 : decode cX0_transfer 91 = .ok (.aload_n 0, 1) := by decide +kernel
theorem dX0_transfer_92 : decode cX0_transfer 92 = .ok (.iload_n 2, 1) := by decide +kernel
theorem dX0_transfer_93 : decode cX0_transfer 93 = .ok (.iload 4, 2) := by decide +kernel
theorem dX0_transfer_95 : decode cX0_transfer 95 = .ok (.invokevirtual 66, 3) := by decide +kernel
theorem dX0_transfer_98 : decode cX0_transfer 98 = .ok (.goto 27, 3) := by decide +kernel
theorem dX0_transfer_101 : decode cX0_transfer 101 = .ok (.iload_n 2, 1) := by decide +kernel
theorem dX0_transfer_102 : decode cX0_transfer 102 = .ok (.bipush 9, 2) := by decide +kernel
theorem dX0_transfer_104 : decode cX0_transfer 104 = .ok (.if_icmp .gt 14, 3) := by decide +kernel
theorem dX0_transfer_107 : decode cX0_transfer 107 = .ok (.aload_n 0, 1) := by decide +kernel
theorem dX0_transfer_108 : decode cX0_transfer 108 = .ok (.iload_n 2, 1) := by decide +kernel
theorem dX0_transfer_109 : decode cX0_transfer 109 = .ok (.iload_n 3, 1) := by decide +kernel
theorem dX0_transfer_110 : decode cX0_transfer 110 = .ok (.iload 4, 2) := by decide +kernel
theorem dX0_transfer_112 : decode cX0_transfer 112 = .ok (.invokevirtual 70, 3) := by decide +kernel
theorem dX0_transfer_115 : decode cX0_transfer 115 = .ok (.goto 10, 3) := by decide +kernel
theorem dX0_transfer_118 : decode cX0_transfer 118 = .ok (.aload_n 0, 1) := by decide +kernel
theorem dX0_transfer_119 : decode cX0_transfer 119 = .ok (.iload_n 2, 1) := by decide +kernel
theorem dX0_transfer_120 : decode cX0_transfer 120 = .ok (.iload 4, 2) := by decide +kernel
theorem dX0_transfer_122 : decode cX0_transfer 122 = .ok (.invokevirtual 73, 3) := by decide +kernel
theorem dX0_transfer_125 : decode cX0_transfer 125 = .ok (.iinc 4 1, 3) := by decide +kernel
theorem dX0_transfer_128 : decode cX0_transfer 128 = .ok (.goto (-76), 3) := by decide +kernel
theorem dX0_transfer_131 : decode cX0_transfer 131 = .ok (.return_, 1) := by decide +kernel
abbrev cX0_setRow : ByteArray := prog_1_method_11_code
def yX0_setRow : MethodName := ⟨RX0, "setRow", "(III)V"⟩
theorem dX0_setRow_0 : decode cX0_setRow 0 = .ok (.iload_n 1, 1) := by decide +kernel
theorem dX0_setRow_1 : decode cX0_setRow 1 = .ok (.ifCond .ne 24, 3) := by decide +kernel
theorem dX0_setRow_4 : decode cX0_setRow 4 = .ok (.aload_n 0, 1) := by decide +kernel
theorem dX0_setRow_5 : decode cX0_setRow 5 = .ok (.getfield 40, 3) := by decide +kernel
theorem dX0_setRow_8 : decode cX0_setRow 8 = .ok (.iload_n 2, 1) := by decide +kernel
theorem dX0_setRow_9 : decode cX0_setRow 9 = .ok (.bipush 15, 2) := by decide +kernel
theorem dX0_setRow_11 : decode cX0_setRow 11 = .ok (.iand, 1) := by decide +kernel
theorem dX0_setRow_12 : decode cX0_setRow 12 = .ok (.dup2, 1) := by decide +kernel
theorem dX0_setRow_13 : decode cX0_setRow 13 = .ok (.iaload, 1) := by decide +kernel
theorem dX0_setRow_14 : decode cX0_setRow 14 = .ok (.aload_n 0, 1) := by decide +kernel
theorem dX0_setRow_15 : decode cX0_setRow 15 = .ok (.getfield 37, 3) := by decide +kernel
theorem dX0_setRow_18 : decode cX0_setRow 18 = .ok (.iload_n 3, 1) := by decide +kernel
theorem dX0_setRow_19 : decode cX0_setRow 19 = .ok (.iaload, 1) := by decide +kernel
theorem dX0_setRow_20 : decode cX0_setRow 20 = .ok (.ior, 1) := by decide +kernel
theorem dX0_setRow_21 : decode cX0_setRow 21 = .ok (.iastore, 1) := by decide +kernel
theorem dX0_setRow_22 : decode cX0_setRow 22 = .ok (.goto 46, 3) := by decide +kernel
theorem dX0_setRow_25 : decode cX0_setRow 25 = .ok (.iload_n 1, 1) := by decide +kernel
theorem dX0_setRow_26 : decode cX0_setRow 26 = .ok (.iconst 1, 1) := by decide +kernel
theorem dX0_setRow_27 : decode cX0_setRow 27 = .ok (.if_icmp .ne 21, 3) := by decide +kernel
theorem dX0_setRow_30 : decode cX0_setRow 30 = .ok (.aload_n 0, 1) := by decide +kernel
theorem dX0_setRow_31 : decode cX0_setRow 31 = .ok (.getfield 40, 3) := by decide +kernel
theorem dX0_setRow_34 : decode cX0_setRow 34 = .ok (.iload_n 3, 1) := by decide +kernel
theorem dX0_setRow_35 : decode cX0_setRow 35 = .ok (.dup2, 1) := by decide +kernel
theorem dX0_setRow_36 : decode cX0_setRow 36 = .ok (.iaload, 1) := by decide +kernel
theorem dX0_setRow_37 : decode cX0_setRow 37 = .ok (.iconst 1, 1) := by decide +kernel
theorem dX0_setRow_38 : decode cX0_setRow 38 = .ok (.iload_n 2, 1) := by decide +kernel
theorem dX0_setRow_39 : decode cX0_setRow 39 = .ok (.bipush 15, 2) := by decide +kernel
theorem dX0_setRow_41 : decode cX0_setRow 41 = .ok (.iand, 1) := by decide +kernel
theorem dX0_setRow_42 : decode cX0_setRow 42 = .ok (.ishl, 1) := by decide +kernel
theorem dX0_setRow_43 : decode cX0_setRow 43 = .ok (.ior, 1) := by decide +kernel
theorem dX0_setRow_44 : decode cX0_setRow 44 = .ok (.iastore, 1) := by decide +kernel
theorem dX0_setRow_45 : decode cX0_setRow 45 = .ok (.goto 23, 3) := by decide +kernel
theorem dX0_setRow_48 : decode cX0_setRow 48 = .ok (.aload_n 0, 1) := by decide +kernel
theorem dX0_setRow_49 : decode cX0_setRow 49 = .ok (.getfield 40, 3) := by decide +kernel
theorem dX0_setRow_52 : decode cX0_setRow 52 = .ok (.iload_n 3, 1) := by decide +kernel
theorem dX0_setRow_53 : decode cX0_setRow 53 = .ok (.iload_n 2, 1) := by decide +kernel
theorem dX0_setRow_54 : decode cX0_setRow 54 = .ok (.iadd, 1) := by decide +kernel
theorem dX0_setRow_55 : decode cX0_setRow 55 = .ok (.bipush 15, 2) := by decide +kernel
theorem dX0_setRow_57 : decode cX0_setRow 57 = .ok (.iand, 1) := by decide +kernel
theorem dX0_setRow_58 : decode cX0_setRow 58 = .ok (.dup2, 1) := by decide +kernel
theorem dX0_setRow_59 : decode cX0_setRow 59 = .ok (.iaload, 1) := by decide +kernel
theorem dX0_setRow_60 : decode cX0_setRow 60 = .ok (.aload_n 0, 1) := by decide +kernel
theorem dX0_setRow_61 : decode cX0_setRow 61 = .ok (.getfield 37, 3) := by decide +kernel
theorem dX0_setRow_64 : decode cX0_setRow 64 = .ok (.iload_n 3, 1) := by decide +kernel
theorem dX0_setRow_65 : decode cX0_setRow 65 = .ok (.iaload, 1) := by decide +kernel
theorem dX0_setRow_66 : decode cX0_setRow 66 = .ok (.ior, 1) := by decide +kernel
theorem dX0_setRow_67 : decode cX0_setRow 67 = .ok (.iastore, 1) := by decide +kernel
theorem dX0_setRow_68 : decode cX0_setRow 68 = .ok (.return_, 1) := by decide +kernel
abbrev cX0_pairs : ByteArray := prog_1_method_12_code
def yX0_pairs : MethodName := ⟨RX0, "pairs", "(II)V"⟩
theorem dX0_pairs_0 : decode cX0_pairs 0 = .ok (.iconst 0, 1) := by decide +kernel
theorem dX0_pairs_1 : decode cX0_pairs 1 = .ok (.istore_n 3, 1) := by decide +kernel
theorem dX0_pairs_2 : decode cX0_pairs 2 = .ok (.iload_n 3, 1) := by decide +kernel
theorem dX0_pairs_3 : decode cX0_pairs 3 = .ok (.bipush 16, 2) := by decide +kernel
theorem dX0_pairs_5 : decode cX0_pairs 5 = .ok (.if_icmp .ge 30, 3) := by decide +kernel
theorem dX0_pairs_8 : decode cX0_pairs 8 = .ok (.aload_n 0, 1) := by decide +kernel
theorem dX0_pairs_9 : decode cX0_pairs 9 = .ok (.getfield 37, 3) := by decide +kernel
theorem dX0_pairs_12 : decode cX0_pairs 12 = .ok (.iload_n 2, 1) := by decide +kernel
theorem dX0_pairs_13 : decode cX0_pairs 13 = .ok (.iaload, 1) := by decide +kernel
theorem dX0_pairs_14 : decode cX0_pairs 14 = .ok (.iload_n 3, 1) := by decide +kernel
theorem dX0_pairs_15 : decode cX0_pairs 15 = .ok (.ishr, 1) := by decide +kernel
theorem dX0_pairs_16 : decode cX0_pairs 16 = .ok (.iconst 1, 1) := by decide +kernel
theorem dX0_pairs_17 : decode cX0_pairs 17 = .ok (.iand, 1) := by decide +kernel
theorem dX0_pairs_18 : decode cX0_pairs 18 = .ok (.iconst 1, 1) := by decide +kernel
theorem dX0_pairs_19 : decode cX0_pairs 19 = .ok (.if_icmp .ne 10, 3) := by decide +kernel
theorem dX0_pairs_22 : decode cX0_pairs 22 = .ok (.aload_n 0, 1) := by decide +kernel
theorem dX0_pairs_23 : decode cX0_pairs 23 = .ok (.iload_n 1, 1) := by decide +kernel
theorem dX0_pairs_24 : decode cX0_pairs 24 = .ok (.iload_n 2, 1) := by decide +kernel
theorem dX0_pairs_25 : decode cX0_pairs 25 = .ok (.iload_n 3, 1) := by decide +kernel
theorem dX0_pairs_26 : decode cX0_pairs 26 = .ok (.invokevirtual 76, 3) := by decide +kernel
theorem dX0_pairs_29 : decode cX0_pairs 29 = .ok (.iinc 3 1, 3) := by decide +kernel
theorem dX0_pairs_32 : decode cX0_pairs 32 = .ok (.goto (-30), 3) := by decide +kernel
theorem dX0_pairs_35 : decode cX0_pairs 35 = .ok (.return_, 1) := by decide +kernel
abbrev cX0_pair : ByteArray := prog_1_method_13_code
def yX0_pair : MethodName := ⟨RX0, "pair", "(III)V"⟩
theorem dX0_pair_0 : decode cX0_pair 0 = .ok (.iload_n 1, 1) := by decide +kernel
theorem dX0_pair_1 : decode cX0_pair 1 = .ok (.tableswitch 92 3 6 #[31, 42, 53, 64], 31) := by decide +kernel
theorem dX0_pair_32 : decode cX0_pair 32 = .ok (.aload_n 0, 1) := by decide +kernel
theorem dX0_pair_33 : decode cX0_pair 33 = .ok (.iload_n 2, 1) := by decide +kernel
theorem dX0_pair_34 : decode cX0_pair 34 = .ok (.iload_n 3, 1) := by decide +kernel
theorem dX0_pair_35 : decode cX0_pair 35 = .ok (.iadd, 1) := by decide +kernel
theorem dX0_pair_36 : decode cX0_pair 36 = .ok (.iload_n 3, 1) := by decide +kernel
theorem dX0_pair_37 : decode cX0_pair 37 = .ok (.invokevirtual 79, 3) := by decide +kernel
theorem dX0_pair_40 : decode cX0_pair 40 = .ok (.goto 59, 3) := by decide +kernel
theorem dX0_pair_43 : decode cX0_pair 43 = .ok (.aload_n 0, 1) := by decide +kernel
theorem dX0_pair_44 : decode cX0_pair 44 = .ok (.iload_n 2, 1) := by decide +kernel
theorem dX0_pair_45 : decode cX0_pair 45 = .ok (.iload_n 3, 1) := by decide +kernel
theorem dX0_pair_46 : decode cX0_pair 46 = .ok (.isub, 1) := by decide +kernel
theorem dX0_pair_47 : decode cX0_pair 47 = .ok (.iload_n 3, 1) := by decide +kernel
theorem dX0_pair_48 : decode cX0_pair 48 = .ok (.invokevirtual 79, 3) := by decide +kernel
theorem dX0_pair_51 : decode cX0_pair 51 = .ok (.goto 48, 3) := by decide +kernel
theorem dX0_pair_54 : decode cX0_pair 54 = .ok (.aload_n 0, 1) := by decide +kernel
theorem dX0_pair_55 : decode cX0_pair 55 = .ok (.iload_n 2, 1) := by decide +kernel
theorem dX0_pair_56 : decode cX0_pair 56 = .ok (.iload_n 3, 1) := by decide +kernel
theorem dX0_pair_57 : decode cX0_pair 57 = .ok (.imul, 1) := by decide +kernel
theorem dX0_pair_58 : decode cX0_pair 58 = .ok (.iload_n 3, 1) := by decide +kernel
theorem dX0_pair_59 : decode cX0_pair 59 = .ok (.invokevirtual 79, 3) := by decide +kernel
theorem dX0_pair_62 : decode cX0_pair 62 = .ok (.goto 37, 3) := by decide +kernel
theorem dX0_pair_65 : decode cX0_pair 65 = .ok (.iload_n 3, 1) := by decide +kernel
theorem dX0_pair_66 : decode cX0_pair 66 = .ok (.ifCond .ne 16, 3) := by decide +kernel
theorem dX0_pair_69 : decode cX0_pair 69 = .ok (.aload_n 0, 1) := by decide +kernel
theorem dX0_pair_70 : decode cX0_pair 70 = .ok (.getfield 46, 3) := by decide +kernel
theorem dX0_pair_73 : decode cX0_pair 73 = .ok (.iload_n 2, 1) := by decide +kernel
theorem dX0_pair_74 : decode cX0_pair 74 = .ok (.dup2, 1) := by decide +kernel
theorem dX0_pair_75 : decode cX0_pair 75 = .ok (.iaload, 1) := by decide +kernel
theorem dX0_pair_76 : decode cX0_pair 76 = .ok (.iconst 1, 1) := by decide +kernel
theorem dX0_pair_77 : decode cX0_pair 77 = .ok (.ior, 1) := by decide +kernel
theorem dX0_pair_78 : decode cX0_pair 78 = .ok (.iastore, 1) := by decide +kernel
theorem dX0_pair_79 : decode cX0_pair 79 = .ok (.goto 20, 3) := by decide +kernel
theorem dX0_pair_82 : decode cX0_pair 82 = .ok (.aload_n 0, 1) := by decide +kernel
theorem dX0_pair_83 : decode cX0_pair 83 = .ok (.iload_n 2, 1) := by decide +kernel
theorem dX0_pair_84 : decode cX0_pair 84 = .ok (.iload_n 3, 1) := by decide +kernel
theorem dX0_pair_85 : decode cX0_pair 85 = .ok (.idiv, 1) := by decide +kernel
theorem dX0_pair_86 : decode cX0_pair 86 = .ok (.iload_n 3, 1) := by decide +kernel
theorem dX0_pair_87 : decode cX0_pair 87 = .ok (.invokevirtual 79, 3) := by decide +kernel
theorem dX0_pair_90 : decode cX0_pair 90 = .ok (.goto 9, 3) := by decide +kernel
theorem dX0_pair_93 : decode cX0_pair 93 = .ok (.aload_n 0, 1) := by decide +kernel
theorem dX0_pair_94 : decode cX0_pair 94 = .ok (.iload_n 3, 1) := by decide +kernel
theorem dX0_pair_95 : decode cX0_pair 95 = .ok (.iload_n 2, 1) := by decide +kernel
theorem dX0_pair_96 : decode cX0_pair 96 = .ok (.invokevirtual 79, 3) := by decide +kernel
theorem dX0_pair_99 : decode cX0_pair 99 = .ok (.return_, 1) := by decide +kernel
abbrev cX0_addPair : ByteArray := prog_1_method_9_code
def yX0_addPair : MethodName := ⟨RX0, "addPair", "(II)V"⟩
theorem dX0_addPair_0 : decode cX0_addPair 0 = .ok (.aload_n 0, 1) := by decide +kernel
theorem dX0_addPair_1 : decode cX0_addPair 1 = .ok (.getfield 40, 3) := by decide +kernel
theorem dX0_addPair_4 : decode cX0_addPair 4 = .ok (.iload_n 1, 1) := by decide +kernel
theorem dX0_addPair_5 : decode cX0_addPair 5 = .ok (.bipush 15, 2) := by decide +kernel
theorem dX0_addPair_7 : decode cX0_addPair 7 = .ok (.iand, 1) := by decide +kernel
theorem dX0_addPair_8 : decode cX0_addPair 8 = .ok (.dup2, 1) := by decide +kernel
theorem dX0_addPair_9 : decode cX0_addPair 9 = .ok (.iaload, 1) := by decide +kernel
theorem dX0_addPair_10 : decode cX0_addPair 10 = .ok (.iconst 1, 1) := by decide +kernel
theorem dX0_addPair_11 : decode cX0_addPair 11 = .ok (.iload_n 2, 1) := by decide +kernel
theorem dX0_addPair_12 : decode cX0_addPair 12 = .ok (.bipush 15, 2) := by decide +kernel
theorem dX0_addPair_14 : decode cX0_addPair 14 = .ok (.iand, 1) := by decide +kernel
theorem dX0_addPair_15 : decode cX0_addPair 15 = .ok (.ishl, 1) := by decide +kernel
theorem dX0_addPair_16 : decode cX0_addPair 16 = .ok (.ior, 1) := by decide +kernel
theorem dX0_addPair_17 : decode cX0_addPair 17 = .ok (.iastore, 1) := by decide +kernel
theorem dX0_addPair_18 : decode cX0_addPair 18 = .ok (.return_, 1) := by decide +kernel
abbrev cX0_checkRow : ByteArray := prog_1_method_14_code
def yX0_checkRow : MethodName := ⟨RX0, "checkRow", "(III)V"⟩
theorem dX0_checkRow_0 : decode cX0_checkRow 0 = .ok (.iload_n 1, 1) := by decide +kernel
theorem dX0_checkRow_1 : decode cX0_checkRow 1 = .ok (.bipush 9, 2) := by decide +kernel
theorem dX0_checkRow_3 : decode cX0_checkRow 3 = .ok (.if_icmp .ne 14, 3) := by decide +kernel
theorem dX0_checkRow_6 : decode cX0_checkRow 6 = .ok (.aload_n 0, 1) := by decide +kernel
theorem dX0_checkRow_7 : decode cX0_checkRow 7 = .ok (.getfield 40, 3) := by decide +kernel
theorem dX0_checkRow_10 : decode cX0_checkRow 10 = .ok (.iload_n 3, 1) := by decide +kernel
theorem dX0_checkRow_11 : decode cX0_checkRow 11 = .ok (.ldc 61, 2) := by decide +kernel
theorem dX0_checkRow_13 : decode cX0_checkRow 13 = .ok (.iastore, 1) := by decide +kernel
theorem dX0_checkRow_14 : decode cX0_checkRow 14 = .ok (.goto 38, 3) := by decide +kernel
theorem dX0_checkRow_17 : decode cX0_checkRow 17 = .ok (.iload_n 3, 1) := by decide +kernel
theorem dX0_checkRow_18 : decode cX0_checkRow 18 = .ok (.iload_n 2, 1) := by decide +kernel
theorem dX0_checkRow_19 : decode cX0_checkRow 19 = .ok (.bipush 31, 2) := by decide +kernel
theorem dX0_checkRow_21 : decode cX0_checkRow 21 = .ok (.iand, 1) := by decide +kernel
theorem dX0_checkRow_22 : decode cX0_checkRow 22 = .ok (.if_icmp .lt 18, 3) := by decide +kernel
theorem dX0_checkRow_25 : decode cX0_checkRow 25 = .ok (.aload_n 0, 1) := by decide +kernel
theorem dX0_checkRow_26 : decode cX0_checkRow 26 = .ok (.getfield 46, 3) := by decide +kernel
theorem dX0_checkRow_29 : decode cX0_checkRow 29 = .ok (.iload_n 3, 1) := by decide +kernel
theorem dX0_checkRow_30 : decode cX0_checkRow 30 = .ok (.aload_n 0, 1) := by decide +kernel
theorem dX0_checkRow_31 : decode cX0_checkRow 31 = .ok (.getfield 37, 3) := by decide +kernel
theorem dX0_checkRow_34 : decode cX0_checkRow 34 = .ok (.iload_n 3, 1) := by decide +kernel
theorem dX0_checkRow_35 : decode cX0_checkRow 35 = .ok (.iaload, 1) := by decide +kernel
theorem dX0_checkRow_36 : decode cX0_checkRow 36 = .ok (.iastore, 1) := by decide +kernel
theorem dX0_checkRow_37 : decode cX0_checkRow 37 = .ok (.goto 15, 3) := by decide +kernel
theorem dX0_checkRow_40 : decode cX0_checkRow 40 = .ok (.aload_n 0, 1) := by decide +kernel
theorem dX0_checkRow_41 : decode cX0_checkRow 41 = .ok (.getfield 40, 3) := by decide +kernel
theorem dX0_checkRow_44 : decode cX0_checkRow 44 = .ok (.iload_n 3, 1) := by decide +kernel
theorem dX0_checkRow_45 : decode cX0_checkRow 45 = .ok (.aload_n 0, 1) := by decide +kernel
theorem dX0_checkRow_46 : decode cX0_checkRow 46 = .ok (.getfield 37, 3) := by decide +kernel
theorem dX0_checkRow_49 : decode cX0_checkRow 49 = .ok (.iload_n 3, 1) := by decide +kernel
theorem dX0_checkRow_50 : decode cX0_checkRow 50 = .ok (.iaload, 1) := by decide +kernel
theorem dX0_checkRow_51 : decode cX0_checkRow 51 = .ok (.iastore, 1) := by decide +kernel
theorem dX0_checkRow_52 : decode cX0_checkRow 52 = .ok (.return_, 1) := by decide +kernel
abbrev cX0_branchRow : ByteArray := prog_1_method_15_code
def yX0_branchRow : MethodName := ⟨RX0, "branchRow", "(II)V"⟩
theorem dX0_branchRow_0 : decode cX0_branchRow 0 = .ok (.iconst 0, 1) := by decide +kernel
theorem dX0_branchRow_1 : decode cX0_branchRow 1 = .ok (.istore_n 3, 1) := by decide +kernel
theorem dX0_branchRow_2 : decode cX0_branchRow 2 = .ok (.iload_n 1, 1) := by decide +kernel
theorem dX0_branchRow_3 : decode cX0_branchRow 3 = .ok (.bipush 10, 2) := by decide +kernel
theorem dX0_branchRow_5 : decode cX0_branchRow 5 = .ok (.if_icmp .ne 6, 3) := by decide +kernel
theorem dX0_branchRow_8 : decode cX0_branchRow 8 = .ok (.ldc 61, 2) := by decide +kernel
theorem dX0_branchRow_10 : decode cX0_branchRow 10 = .ok (.istore_n 3, 1) := by decide +kernel
theorem dX0_branchRow_11 : decode cX0_branchRow 11 = .ok (.iload_n 1, 1) := by decide +kernel
theorem dX0_branchRow_12 : decode cX0_branchRow 12 = .ok (.bipush 11, 2) := by decide +kernel
theorem dX0_branchRow_14 : decode cX0_branchRow 14 = .ok (.if_icmp .ne 7, 3) := by decide +kernel
theorem dX0_branchRow_17 : decode cX0_branchRow 17 = .ok (.iconst 1, 1) := by decide +kernel
theorem dX0_branchRow_18 : decode cX0_branchRow 18 = .ok (.iload_n 2, 1) := by decide +kernel
theorem dX0_branchRow_19 : decode cX0_branchRow 19 = .ok (.ishl, 1) := by decide +kernel
theorem dX0_branchRow_20 : decode cX0_branchRow 20 = .ok (.istore_n 3, 1) := by decide +kernel
theorem dX0_branchRow_21 : decode cX0_branchRow 21 = .ok (.iload_n 1, 1) := by decide +kernel
theorem dX0_branchRow_22 : decode cX0_branchRow 22 = .ok (.bipush 12, 2) := by decide +kernel
theorem dX0_branchRow_24 : decode cX0_branchRow 24 = .ok (.if_icmp .ne 8, 3) := by decide +kernel
theorem dX0_branchRow_27 : decode cX0_branchRow 27 = .ok (.iload_n 2, 1) := by decide +kernel
theorem dX0_branchRow_28 : decode cX0_branchRow 28 = .ok (.invokestatic 82, 3) := by decide +kernel
theorem dX0_branchRow_31 : decode cX0_branchRow 31 = .ok (.istore_n 3, 1) := by decide +kernel
theorem dX0_branchRow_32 : decode cX0_branchRow 32 = .ok (.iload_n 1, 1) := by decide +kernel
theorem dX0_branchRow_33 : decode cX0_branchRow 33 = .ok (.bipush 13, 2) := by decide +kernel
theorem dX0_branchRow_35 : decode cX0_branchRow 35 = .ok (.if_icmp .ne 10, 3) := by decide +kernel
theorem dX0_branchRow_38 : decode cX0_branchRow 38 = .ok (.iload_n 2, 1) := by decide +kernel
theorem dX0_branchRow_39 : decode cX0_branchRow 39 = .ok (.ifCond .ne 6, 3) := by decide +kernel
theorem dX0_branchRow_42 : decode cX0_branchRow 42 = .ok (.ldc 61, 2) := by decide +kernel
theorem dX0_branchRow_44 : decode cX0_branchRow 44 = .ok (.istore_n 3, 1) := by decide +kernel
theorem dX0_branchRow_45 : decode cX0_branchRow 45 = .ok (.iload_n 1, 1) := by decide +kernel
theorem dX0_branchRow_46 : decode cX0_branchRow 46 = .ok (.bipush 14, 2) := by decide +kernel
theorem dX0_branchRow_48 : decode cX0_branchRow 48 = .ok (.if_icmp .eq 33, 3) := by decide +kernel
theorem dX0_branchRow_51 : decode cX0_branchRow 51 = .ok (.aload_n 0, 1) := by decide +kernel
theorem dX0_branchRow_52 : decode cX0_branchRow 52 = .ok (.getfield 43, 3) := by decide +kernel
theorem dX0_branchRow_55 : decode cX0_branchRow 55 = .ok (.iload_n 2, 1) := by decide +kernel
theorem dX0_branchRow_56 : decode cX0_branchRow 56 = .ok (.aload_n 0, 1) := by decide +kernel
theorem dX0_branchRow_57 : decode cX0_branchRow 57 = .ok (.getfield 37, 3) := by decide +kernel
theorem dX0_branchRow_60 : decode cX0_branchRow 60 = .ok (.iload_n 2, 1) := by decide +kernel
theorem dX0_branchRow_61 : decode cX0_branchRow 61 = .ok (.iaload, 1) := by decide +kernel
theorem dX0_branchRow_62 : decode cX0_branchRow 62 = .ok (.iload_n 3, 1) := by decide +kernel
theorem dX0_branchRow_63 : decode cX0_branchRow 63 = .ok (.iand, 1) := by decide +kernel
theorem dX0_branchRow_64 : decode cX0_branchRow 64 = .ok (.iastore, 1) := by decide +kernel
theorem dX0_branchRow_65 : decode cX0_branchRow 65 = .ok (.aload_n 0, 1) := by decide +kernel
theorem dX0_branchRow_66 : decode cX0_branchRow 66 = .ok (.getfield 40, 3) := by decide +kernel
theorem dX0_branchRow_69 : decode cX0_branchRow 69 = .ok (.iload_n 2, 1) := by decide +kernel
theorem dX0_branchRow_70 : decode cX0_branchRow 70 = .ok (.aload_n 0, 1) := by decide +kernel
theorem dX0_branchRow_71 : decode cX0_branchRow 71 = .ok (.getfield 37, 3) := by decide +kernel
theorem dX0_branchRow_74 : decode cX0_branchRow 74 = .ok (.iload_n 2, 1) := by decide +kernel
theorem dX0_branchRow_75 : decode cX0_branchRow 75 = .ok (.iaload, 1) := by decide +kernel
theorem dX0_branchRow_76 : decode cX0_branchRow 76 = .ok (.iload_n 3, 1) := by decide +kernel
theorem dX0_branchRow_77 : decode cX0_branchRow 77 = .ok (.iconst (-1), 1) := by decide +kernel
theorem dX0_branchRow_78 : decode cX0_branchRow 78 = .ok (.ixor, 1) := by decide +kernel
theorem dX0_branchRow_79 : decode cX0_branchRow 79 = .ok (.iand, 1) := by decide +kernel
theorem dX0_branchRow_80 : decode cX0_branchRow 80 = .ok (.iastore, 1) := by decide +kernel
theorem dX0_branchRow_81 : decode cX0_branchRow 81 = .ok (.return_, 1) := by decide +kernel
abbrev cX0_above : ByteArray := prog_1_method_7_code
def yX0_above : MethodName := ⟨RX0, "above", "(I)I"⟩
theorem dX0_above_0 : decode cX0_above 0 = .ok (.ldc 61, 2) := by decide +kernel
theorem dX0_above_2 : decode cX0_above 2 = .ok (.iconst 2, 1) := by decide +kernel
theorem dX0_above_3 : decode cX0_above 3 = .ok (.iload_n 0, 1) := by decide +kernel
theorem dX0_above_4 : decode cX0_above 4 = .ok (.ishl, 1) := by decide +kernel
theorem dX0_above_5 : decode cX0_above 5 = .ok (.iconst 1, 1) := by decide +kernel
theorem dX0_above_6 : decode cX0_above 6 = .ok (.isub, 1) := by decide +kernel
theorem dX0_above_7 : decode cX0_above 7 = .ok (.iconst (-1), 1) := by decide +kernel
theorem dX0_above_8 : decode cX0_above 8 = .ok (.ixor, 1) := by decide +kernel
theorem dX0_above_9 : decode cX0_above 9 = .ok (.iand, 1) := by decide +kernel
theorem dX0_above_10 : decode cX0_above 10 = .ok (.ireturn, 1) := by decide +kernel
abbrev cX0_send : ByteArray := prog_1_method_17_code
def yX0_send : MethodName := ⟨RX0, "send", "(IZ)V"⟩
theorem dX0_send_0 : decode cX0_send 0 = .ok (.aload_n 0, 1) := by decide +kernel
theorem dX0_send_1 : decode cX0_send 1 = .ok (.iload_n 1, 1) := by decide +kernel
theorem dX0_send_2 : decode cX0_send 2 = .ok (.invokevirtual 57, 3) := by decide +kernel
theorem dX0_send_5 : decode cX0_send 5 = .ok (.istore_n 3, 1) := by decide +kernel
theorem dX0_send_6 : decode cX0_send 6 = .ok (.iconst 0, 1) := by decide +kernel
theorem dX0_send_7 : decode cX0_send 7 = .ok (.istore 4, 2) := by decide +kernel
theorem dX0_send_9 : decode cX0_send 9 = .ok (.iload 4, 2) := by decide +kernel
theorem dX0_send_11 : decode cX0_send 11 = .ok (.bipush 16, 2) := by decide +kernel
theorem dX0_send_13 : decode cX0_send 13 = .ok (.if_icmp .ge 67, 3) := by decide +kernel
theorem dX0_send_16 : decode cX0_send 16 = .ok (.iload_n 2, 1) := by decide +kernel
theorem dX0_send_17 : decode cX0_send 17 = .ok (.ifCond .eq 13, 3) := by decide +kernel
theorem dX0_send_20 : decode cX0_send 20 = .ok (.aload_n 0, 1) := by decide +kernel
theorem dX0_send_21 : decode cX0_send 21 = .ok (.getfield 43, 3) := by decide +kernel
theorem dX0_send_24 : decode cX0_send 24 = .ok (.iload 4, 2) := by decide +kernel
theorem dX0_send_26 : decode cX0_send 26 = .ok (.iaload, 1) := by decide +kernel
theorem dX0_send_27 : decode cX0_send 27 = .ok (.goto 10, 3) := by decide +kernel
theorem dX0_send_30 : decode cX0_send 30 = .ok (.aload_n 0, 1) := by decide +kernel
theorem dX0_send_31 : decode cX0_send 31 = .ok (.getfield 40, 3) := by decide +kernel
theorem dX0_send_34 : decode cX0_send 34 = .ok (.iload 4, 2) := by decide +kernel
theorem dX0_send_36 : decode cX0_send 36 = .ok (.iaload, 1) := by decide +kernel
theorem dX0_send_37 : decode cX0_send 37 = .ok (.istore 5, 2) := by decide +kernel
theorem dX0_send_39 : decode cX0_send 39 = .ok (.iload 5, 2) := by decide +kernel
theorem dX0_send_41 : decode cX0_send 41 = .ok (.ifCond .eq 12, 3) := by decide +kernel
theorem dX0_send_44 : decode cX0_send 44 = .ok (.iload_n 3, 1) := by decide +kernel
theorem dX0_send_45 : decode cX0_send 45 = .ok (.ifCond .eq 8, 3) := by decide +kernel
theorem dX0_send_48 : decode cX0_send 48 = .ok (.aload_n 0, 1) := by decide +kernel
theorem dX0_send_49 : decode cX0_send 49 = .ok (.iconst 1, 1) := by decide +kernel
theorem dX0_send_50 : decode cX0_send 50 = .ok (.putfield 86, 3) := by decide +kernel
theorem dX0_send_53 : decode cX0_send 53 = .ok (.iload_n 3, 1) := by decide +kernel
theorem dX0_send_54 : decode cX0_send 54 = .ok (.ifCond .ne 20, 3) := by decide +kernel
theorem dX0_send_57 : decode cX0_send 57 = .ok (.aload_n 0, 1) := by decide +kernel
theorem dX0_send_58 : decode cX0_send 58 = .ok (.getfield 28, 3) := by decide +kernel
theorem dX0_send_61 : decode cX0_send 61 = .ok (.iload_n 1, 1) := by decide +kernel
theorem dX0_send_62 : decode cX0_send 62 = .ok (.bipush 16, 2) := by decide +kernel
theorem dX0_send_64 : decode cX0_send 64 = .ok (.imul, 1) := by decide +kernel
theorem dX0_send_65 : decode cX0_send 65 = .ok (.iload 4, 2) := by decide +kernel
theorem dX0_send_67 : decode cX0_send 67 = .ok (.iadd, 1) := by decide +kernel
theorem dX0_send_68 : decode cX0_send 68 = .ok (.dup2, 1) := by decide +kernel
theorem dX0_send_69 : decode cX0_send 69 = .ok (.iaload, 1) := by decide +kernel
theorem dX0_send_70 : decode cX0_send 70 = .ok (.iload 5, 2) := by decide +kernel
theorem dX0_send_72 : decode cX0_send 72 = .ok (.ior, 1) := by decide +kernel
theorem dX0_send_73 : decode cX0_send 73 = .ok (.iastore, 1) := by decide +kernel
theorem dX0_send_74 : decode cX0_send 74 = .ok (.iinc 4 1, 3) := by decide +kernel
theorem dX0_send_77 : decode cX0_send 77 = .ok (.goto (-68), 3) := by decide +kernel
theorem dX0_send_80 : decode cX0_send 80 = .ok (.return_, 1) := by decide +kernel
abbrev cX0_findEndless : ByteArray := prog_1_method_24_code
def yX0_findEndless : MethodName := ⟨RX0, "findEndless", "()V"⟩
theorem dX0_findEndless_0 : decode cX0_findEndless 0 = .ok (.iconst 0, 1) := by decide +kernel
theorem dX0_findEndless_1 : decode cX0_findEndless 1 = .ok (.istore_n 1, 1) := by decide +kernel
theorem dX0_findEndless_2 : decode cX0_findEndless 2 = .ok (.iload_n 1, 1) := by decide +kernel
theorem dX0_findEndless_3 : decode cX0_findEndless 3 = .ok (.sipush 256, 3) := by decide +kernel
theorem dX0_findEndless_6 : decode cX0_findEndless 6 = .ok (.if_icmp .ge 21, 3) := by decide +kernel
theorem dX0_findEndless_9 : decode cX0_findEndless 9 = .ok (.aload_n 0, 1) := by decide +kernel
theorem dX0_findEndless_10 : decode cX0_findEndless 10 = .ok (.getfield 31, 3) := by decide +kernel
theorem dX0_findEndless_13 : decode cX0_findEndless 13 = .ok (.iload_n 1, 1) := by decide +kernel
theorem dX0_findEndless_14 : decode cX0_findEndless 14 = .ok (.aload_n 0, 1) := by decide +kernel
theorem dX0_findEndless_15 : decode cX0_findEndless 15 = .ok (.getfield 22, 3) := by decide +kernel
theorem dX0_findEndless_18 : decode cX0_findEndless 18 = .ok (.iload_n 1, 1) := by decide +kernel
theorem dX0_findEndless_19 : decode cX0_findEndless 19 = .ok (.iaload, 1) := by decide +kernel
theorem dX0_findEndless_20 : decode cX0_findEndless 20 = .ok (.iastore, 1) := by decide +kernel
theorem dX0_findEndless_21 : decode cX0_findEndless 21 = .ok (.iinc 1 1, 3) := by decide +kernel
theorem dX0_findEndless_24 : decode cX0_findEndless 24 = .ok (.goto (-22), 3) := by decide +kernel
theorem dX0_findEndless_27 : decode cX0_findEndless 27 = .ok (.iconst 1, 1) := by decide +kernel
theorem dX0_findEndless_28 : decode cX0_findEndless 28 = .ok (.istore_n 1, 1) := by decide +kernel
theorem dX0_findEndless_29 : decode cX0_findEndless 29 = .ok (.iconst 0, 1) := by decide +kernel
theorem dX0_findEndless_30 : decode cX0_findEndless 30 = .ok (.istore_n 2, 1) := by decide +kernel
theorem dX0_findEndless_31 : decode cX0_findEndless 31 = .ok (.iload_n 2, 1) := by decide +kernel
theorem dX0_findEndless_32 : decode cX0_findEndless 32 = .ok (.sipush 4096, 3) := by decide +kernel
theorem dX0_findEndless_35 : decode cX0_findEndless 35 = .ok (.if_icmp .gt 54, 3) := by decide +kernel
theorem dX0_findEndless_38 : decode cX0_findEndless 38 = .ok (.iload_n 1, 1) := by decide +kernel
theorem dX0_findEndless_39 : decode cX0_findEndless 39 = .ok (.ifCond .eq 50, 3) := by decide +kernel
theorem dX0_findEndless_42 : decode cX0_findEndless 42 = .ok (.iconst 0, 1) := by decide +kernel
theorem dX0_findEndless_43 : decode cX0_findEndless 43 = .ok (.istore_n 1, 1) := by decide +kernel
theorem dX0_findEndless_44 : decode cX0_findEndless 44 = .ok (.aload_n 0, 1) := by decide +kernel
theorem dX0_findEndless_45 : decode cX0_findEndless 45 = .ok (.getfield 49, 3) := by decide +kernel
theorem dX0_findEndless_48 : decode cX0_findEndless 48 = .ok (.iconst 1, 1) := by decide +kernel
theorem dX0_findEndless_49 : decode cX0_findEndless 49 = .ok (.isub, 1) := by decide +kernel
theorem dX0_findEndless_50 : decode cX0_findEndless 50 = .ok (.istore_n 3, 1) := by decide +kernel
theorem dX0_findEndless_51 : decode cX0_findEndless 51 = .ok (.iload_n 3, 1) := by decide +kernel
theorem dX0_findEndless_52 : decode cX0_findEndless 52 = .ok (.ifCond .lt 31, 3) := by decide +kernel
theorem dX0_findEndless_55 : decode cX0_findEndless 55 = .ok (.aload_n 0, 1) := by decide +kernel
theorem dX0_findEndless_56 : decode cX0_findEndless 56 = .ok (.iload_n 3, 1) := by decide +kernel
theorem dX0_findEndless_57 : decode cX0_findEndless 57 = .ok (.invokevirtual 117, 3) := by decide +kernel
theorem dX0_findEndless_60 : decode cX0_findEndless 60 = .ok (.istore 4, 2) := by decide +kernel
theorem dX0_findEndless_62 : decode cX0_findEndless 62 = .ok (.iload_n 1, 1) := by decide +kernel
theorem dX0_findEndless_63 : decode cX0_findEndless 63 = .ok (.ifCond .ne 8, 3) := by decide +kernel
theorem dX0_findEndless_66 : decode cX0_findEndless 66 = .ok (.iload 4, 2) := by decide +kernel
theorem dX0_findEndless_68 : decode cX0_findEndless 68 = .ok (.ifCond .eq 7, 3) := by decide +kernel
theorem dX0_findEndless_71 : decode cX0_findEndless 71 = .ok (.iconst 1, 1) := by decide +kernel
theorem dX0_findEndless_72 : decode cX0_findEndless 72 = .ok (.goto 4, 3) := by decide +kernel
theorem dX0_findEndless_75 : decode cX0_findEndless 75 = .ok (.iconst 0, 1) := by decide +kernel
theorem dX0_findEndless_76 : decode cX0_findEndless 76 = .ok (.istore_n 1, 1) := by decide +kernel
theorem dX0_findEndless_77 : decode cX0_findEndless 77 = .ok (.iinc 3 (-1), 3) := by decide +kernel
theorem dX0_findEndless_80 : decode cX0_findEndless 80 = .ok (.goto (-29), 3) := by decide +kernel
theorem dX0_findEndless_83 : decode cX0_findEndless 83 = .ok (.iinc 2 1, 3) := by decide +kernel
theorem dX0_findEndless_86 : decode cX0_findEndless 86 = .ok (.goto (-55), 3) := by decide +kernel
theorem dX0_findEndless_89 : decode cX0_findEndless 89 = .ok (.return_, 1) := by decide +kernel
abbrev cX0_prune : ByteArray := prog_1_method_21_code
def yX0_prune : MethodName := ⟨RX0, "prune", "(I)Z"⟩
theorem dX0_prune_0 : decode cX0_prune 0 = .ok (.iconst 0, 1) := by decide +kernel
theorem dX0_prune_1 : decode cX0_prune 1 = .ok (.istore_n 2, 1) := by decide +kernel
theorem dX0_prune_2 : decode cX0_prune 2 = .ok (.iconst 0, 1) := by decide +kernel
theorem dX0_prune_3 : decode cX0_prune 3 = .ok (.istore_n 3, 1) := by decide +kernel
theorem dX0_prune_4 : decode cX0_prune 4 = .ok (.iload_n 3, 1) := by decide +kernel
theorem dX0_prune_5 : decode cX0_prune 5 = .ok (.bipush 16, 2) := by decide +kernel
theorem dX0_prune_7 : decode cX0_prune 7 = .ok (.if_icmp .ge 103, 3) := by decide +kernel
theorem dX0_prune_10 : decode cX0_prune 10 = .ok (.iconst 0, 1) := by decide +kernel
theorem dX0_prune_11 : decode cX0_prune 11 = .ok (.istore 4, 2) := by decide +kernel
theorem dX0_prune_13 : decode cX0_prune 13 = .ok (.iconst 0, 1) := by decide +kernel
theorem dX0_prune_14 : decode cX0_prune 14 = .ok (.istore 5, 2) := by decide +kernel
theorem dX0_prune_16 : decode cX0_prune 16 = .ok (.iload 5, 2) := by decide +kernel
theorem dX0_prune_18 : decode cX0_prune 18 = .ok (.bipush 16, 2) := by decide +kernel
theorem dX0_prune_20 : decode cX0_prune 20 = .ok (.if_icmp .ge 53, 3) := by decide +kernel
theorem dX0_prune_23 : decode cX0_prune 23 = .ok (.aload_n 0, 1) := by decide +kernel
theorem dX0_prune_24 : decode cX0_prune 24 = .ok (.getfield 31, 3) := by decide +kernel
theorem dX0_prune_27 : decode cX0_prune 27 = .ok (.iload_n 1, 1) := by decide +kernel
theorem dX0_prune_28 : decode cX0_prune 28 = .ok (.bipush 16, 2) := by decide +kernel
theorem dX0_prune_30 : decode cX0_prune 30 = .ok (.imul, 1) := by decide +kernel
theorem dX0_prune_31 : decode cX0_prune 31 = .ok (.iload_n 3, 1) := by decide +kernel
theorem dX0_prune_32 : decode cX0_prune 32 = .ok (.iadd, 1) := by decide +kernel
theorem dX0_prune_33 : decode cX0_prune 33 = .ok (.iaload, 1) := by decide +kernel
theorem dX0_prune_34 : decode cX0_prune 34 = .ok (.iload 5, 2) := by decide +kernel
theorem dX0_prune_36 : decode cX0_prune 36 = .ok (.ishr, 1) := by decide +kernel
theorem dX0_prune_37 : decode cX0_prune 37 = .ok (.iconst 1, 1) := by decide +kernel
theorem dX0_prune_38 : decode cX0_prune 38 = .ok (.iand, 1) := by decide +kernel
theorem dX0_prune_39 : decode cX0_prune 39 = .ok (.iconst 1, 1) := by decide +kernel
theorem dX0_prune_40 : decode cX0_prune 40 = .ok (.if_icmp .ne 27, 3) := by decide +kernel
theorem dX0_prune_43 : decode cX0_prune 43 = .ok (.aload_n 0, 1) := by decide +kernel
theorem dX0_prune_44 : decode cX0_prune 44 = .ok (.iload_n 1, 1) := by decide +kernel
theorem dX0_prune_45 : decode cX0_prune 45 = .ok (.iload_n 3, 1) := by decide +kernel
theorem dX0_prune_46 : decode cX0_prune 46 = .ok (.iload 5, 2) := by decide +kernel
theorem dX0_prune_48 : decode cX0_prune 48 = .ok (.invokevirtual 109, 3) := by decide +kernel
theorem dX0_prune_51 : decode cX0_prune 51 = .ok (.istore 6, 2) := by decide +kernel
theorem dX0_prune_53 : decode cX0_prune 53 = .ok (.iload 6, 2) := by decide +kernel
theorem dX0_prune_55 : decode cX0_prune 55 = .ok (.ifCond .eq 12, 3) := by decide +kernel
theorem dX0_prune_58 : decode cX0_prune 58 = .ok (.iload 4, 2) := by decide +kernel
theorem dX0_prune_60 : decode cX0_prune 60 = .ok (.iconst 1, 1) := by decide +kernel
theorem dX0_prune_61 : decode cX0_prune 61 = .ok (.iload 5, 2) := by decide +kernel
theorem dX0_prune_63 : decode cX0_prune 63 = .ok (.ishl, 1) := by decide +kernel
theorem dX0_prune_64 : decode cX0_prune 64 = .ok (.ior, 1) := by decide +kernel
theorem dX0_prune_65 : decode cX0_prune 65 = .ok (.istore 4, 2) := by decide +kernel
theorem dX0_prune_67 : decode cX0_prune 67 = .ok (.iinc 5 1, 3) := by decide +kernel
theorem dX0_prune_70 : decode cX0_prune 70 = .ok (.goto (-54), 3) := by decide +kernel
theorem dX0_prune_73 : decode cX0_prune 73 = .ok (.iload 4, 2) := by decide +kernel
theorem dX0_prune_75 : decode cX0_prune 75 = .ok (.aload_n 0, 1) := by decide +kernel
theorem dX0_prune_76 : decode cX0_prune 76 = .ok (.getfield 31, 3) := by decide +kernel
theorem dX0_prune_79 : decode cX0_prune 79 = .ok (.iload_n 1, 1) := by decide +kernel
theorem dX0_prune_80 : decode cX0_prune 80 = .ok (.bipush 16, 2) := by decide +kernel
theorem dX0_prune_82 : decode cX0_prune 82 = .ok (.imul, 1) := by decide +kernel
theorem dX0_prune_83 : decode cX0_prune 83 = .ok (.iload_n 3, 1) := by decide +kernel
theorem dX0_prune_84 : decode cX0_prune 84 = .ok (.iadd, 1) := by decide +kernel
theorem dX0_prune_85 : decode cX0_prune 85 = .ok (.iaload, 1) := by decide +kernel
theorem dX0_prune_86 : decode cX0_prune 86 = .ok (.if_icmp .eq 5, 3) := by decide +kernel
theorem dX0_prune_89 : decode cX0_prune 89 = .ok (.iconst 1, 1) := by decide +kernel
theorem dX0_prune_90 : decode cX0_prune 90 = .ok (.istore_n 2, 1) := by decide +kernel
theorem dX0_prune_91 : decode cX0_prune 91 = .ok (.aload_n 0, 1) := by decide +kernel
theorem dX0_prune_92 : decode cX0_prune 92 = .ok (.getfield 31, 3) := by decide +kernel
theorem dX0_prune_95 : decode cX0_prune 95 = .ok (.iload_n 1, 1) := by decide +kernel
theorem dX0_prune_96 : decode cX0_prune 96 = .ok (.bipush 16, 2) := by decide +kernel
theorem dX0_prune_98 : decode cX0_prune 98 = .ok (.imul, 1) := by decide +kernel
theorem dX0_prune_99 : decode cX0_prune 99 = .ok (.iload_n 3, 1) := by decide +kernel
theorem dX0_prune_100 : decode cX0_prune 100 = .ok (.iadd, 1) := by decide +kernel
theorem dX0_prune_101 : decode cX0_prune 101 = .ok (.iload 4, 2) := by decide +kernel
theorem dX0_prune_103 : decode cX0_prune 103 = .ok (.iastore, 1) := by decide +kernel
theorem dX0_prune_104 : decode cX0_prune 104 = .ok (.iinc 3 1, 3) := by decide +kernel
theorem dX0_prune_107 : decode cX0_prune 107 = .ok (.goto (-103), 3) := by decide +kernel
theorem dX0_prune_110 : decode cX0_prune 110 = .ok (.iload_n 2, 1) := by decide +kernel
theorem dX0_prune_111 : decode cX0_prune 111 = .ok (.ireturn, 1) := by decide +kernel
abbrev cX0_leadsOn : ByteArray := prog_1_method_22_code
def yX0_leadsOn : MethodName := ⟨RX0, "leadsOn", "(III)Z"⟩
theorem dX0_leadsOn_0 : decode cX0_leadsOn 0 = .ok (.iconst 0, 1) := by decide +kernel
theorem dX0_leadsOn_1 : decode cX0_leadsOn 1 = .ok (.istore 4, 2) := by decide +kernel
theorem dX0_leadsOn_3 : decode cX0_leadsOn 3 = .ok (.iload 4, 2) := by decide +kernel
theorem dX0_leadsOn_5 : decode cX0_leadsOn 5 = .ok (.bipush 16, 2) := by decide +kernel
theorem dX0_leadsOn_7 : decode cX0_leadsOn 7 = .ok (.if_icmp .ge 29, 3) := by decide +kernel
theorem dX0_leadsOn_10 : decode cX0_leadsOn 10 = .ok (.aload_n 0, 1) := by decide +kernel
theorem dX0_leadsOn_11 : decode cX0_leadsOn 11 = .ok (.getfield 37, 3) := by decide +kernel
theorem dX0_leadsOn_14 : decode cX0_leadsOn 14 = .ok (.iload 4, 2) := by decide +kernel
theorem dX0_leadsOn_16 : decode cX0_leadsOn 16 = .ok (.iload 4, 2) := by decide +kernel
theorem dX0_leadsOn_18 : decode cX0_leadsOn 18 = .ok (.iload_n 2, 1) := by decide +kernel
theorem dX0_leadsOn_19 : decode cX0_leadsOn 19 = .ok (.if_icmp .ne 9, 3) := by decide +kernel
theorem dX0_leadsOn_22 : decode cX0_leadsOn 22 = .ok (.iconst 1, 1) := by decide +kernel
theorem dX0_leadsOn_23 : decode cX0_leadsOn 23 = .ok (.iload_n 3, 1) := by decide +kernel
theorem dX0_leadsOn_24 : decode cX0_leadsOn 24 = .ok (.ishl, 1) := by decide +kernel
theorem dX0_leadsOn_25 : decode cX0_leadsOn 25 = .ok (.goto 4, 3) := by decide +kernel
theorem dX0_leadsOn_28 : decode cX0_leadsOn 28 = .ok (.iconst 0, 1) := by decide +kernel
theorem dX0_leadsOn_29 : decode cX0_leadsOn 29 = .ok (.iastore, 1) := by decide +kernel
theorem dX0_leadsOn_30 : decode cX0_leadsOn 30 = .ok (.iinc 4 1, 3) := by decide +kernel
theorem dX0_leadsOn_33 : decode cX0_leadsOn 33 = .ok (.goto (-30), 3) := by decide +kernel
theorem dX0_leadsOn_36 : decode cX0_leadsOn 36 = .ok (.aload_n 0, 1) := by decide +kernel
theorem dX0_leadsOn_37 : decode cX0_leadsOn 37 = .ok (.iload_n 1, 1) := by decide +kernel
theorem dX0_leadsOn_38 : decode cX0_leadsOn 38 = .ok (.invokevirtual 92, 3) := by decide +kernel
theorem dX0_leadsOn_41 : decode cX0_leadsOn 41 = .ok (.aload_n 0, 1) := by decide +kernel
theorem dX0_leadsOn_42 : decode cX0_leadsOn 42 = .ok (.iload_n 1, 1) := by decide +kernel
theorem dX0_leadsOn_43 : decode cX0_leadsOn 43 = .ok (.iconst 1, 1) := by decide +kernel
theorem dX0_leadsOn_44 : decode cX0_leadsOn 44 = .ok (.iadd, 1) := by decide +kernel
theorem dX0_leadsOn_45 : decode cX0_leadsOn 45 = .ok (.iconst 0, 1) := by decide +kernel
theorem dX0_leadsOn_46 : decode cX0_leadsOn 46 = .ok (.invokevirtual 113, 3) := by decide +kernel
theorem dX0_leadsOn_49 : decode cX0_leadsOn 49 = .ok (.istore 4, 2) := by decide +kernel
theorem dX0_leadsOn_51 : decode cX0_leadsOn 51 = .ok (.aload_n 0, 1) := by decide +kernel
theorem dX0_leadsOn_52 : decode cX0_leadsOn 52 = .ok (.aload_n 0, 1) := by decide +kernel
theorem dX0_leadsOn_53 : decode cX0_leadsOn 53 = .ok (.getfield 13, 3) := by decide +kernel
theorem dX0_leadsOn_56 : decode cX0_leadsOn 56 = .ok (.iload_n 1, 1) := by decide +kernel
theorem dX0_leadsOn_57 : decode cX0_leadsOn 57 = .ok (.iaload, 1) := by decide +kernel
theorem dX0_leadsOn_58 : decode cX0_leadsOn 58 = .ok (.iconst 1, 1) := by decide +kernel
theorem dX0_leadsOn_59 : decode cX0_leadsOn 59 = .ok (.invokevirtual 113, 3) := by decide +kernel
theorem dX0_leadsOn_62 : decode cX0_leadsOn 62 = .ok (.istore 5, 2) := by decide +kernel
theorem dX0_leadsOn_64 : decode cX0_leadsOn 64 = .ok (.iload 4, 2) := by decide +kernel
theorem dX0_leadsOn_66 : decode cX0_leadsOn 66 = .ok (.ifCond .ne 8, 3) := by decide +kernel
theorem dX0_leadsOn_69 : decode cX0_leadsOn 69 = .ok (.iload 5, 2) := by decide +kernel
theorem dX0_leadsOn_71 : decode cX0_leadsOn 71 = .ok (.ifCond .eq 7, 3) := by decide +kernel
theorem dX0_leadsOn_74 : decode cX0_leadsOn 74 = .ok (.iconst 1, 1) := by decide +kernel
theorem dX0_leadsOn_75 : decode cX0_leadsOn 75 = .ok (.goto 4, 3) := by decide +kernel
theorem dX0_leadsOn_78 : decode cX0_leadsOn 78 = .ok (.iconst 0, 1) := by decide +kernel
theorem dX0_leadsOn_79 : decode cX0_leadsOn 79 = .ok (.ireturn, 1) := by decide +kernel
abbrev cX0_anyAlive : ByteArray := prog_1_method_23_code
def yX0_anyAlive : MethodName := ⟨RX0, "anyAlive", "(IZ)Z"⟩
theorem dX0_anyAlive_0 : decode cX0_anyAlive 0 = .ok (.aload_n 0, 1) := by decide +kernel
theorem dX0_anyAlive_1 : decode cX0_anyAlive 1 = .ok (.iload_n 1, 1) := by decide +kernel
theorem dX0_anyAlive_2 : decode cX0_anyAlive 2 = .ok (.invokevirtual 57, 3) := by decide +kernel
theorem dX0_anyAlive_5 : decode cX0_anyAlive 5 = .ok (.ifCond .eq 5, 3) := by decide +kernel
theorem dX0_anyAlive_8 : decode cX0_anyAlive 8 = .ok (.iconst 0, 1) := by decide +kernel
theorem dX0_anyAlive_9 : decode cX0_anyAlive 9 = .ok (.ireturn, 1) := by decide +kernel
theorem dX0_anyAlive_10 : decode cX0_anyAlive 10 = .ok (.iconst 0, 1) := by decide +kernel
theorem dX0_anyAlive_11 : decode cX0_anyAlive 11 = .ok (.istore_n 3, 1) := by decide +kernel
theorem dX0_anyAlive_12 : decode cX0_anyAlive 12 = .ok (.iload_n 3, 1) := by decide +kernel
theorem dX0_anyAlive_13 : decode cX0_anyAlive 13 = .ok (.bipush 16, 2) := by decide +kernel
theorem dX0_anyAlive_15 : decode cX0_anyAlive 15 = .ok (.if_icmp .ge 49, 3) := by decide +kernel
theorem dX0_anyAlive_18 : decode cX0_anyAlive 18 = .ok (.iload_n 2, 1) := by decide +kernel
theorem dX0_anyAlive_19 : decode cX0_anyAlive 19 = .ok (.ifCond .eq 12, 3) := by decide +kernel
theorem dX0_anyAlive_22 : decode cX0_anyAlive 22 = .ok (.aload_n 0, 1) := by decide +kernel
theorem dX0_anyAlive_23 : decode cX0_anyAlive 23 = .ok (.getfield 43, 3) := by decide +kernel
theorem dX0_anyAlive_26 : decode cX0_anyAlive 26 = .ok (.iload_n 3, 1) := by decide +kernel
theorem dX0_anyAlive_27 : decode cX0_anyAlive 27 = .ok (.iaload, 1) := by decide +kernel
theorem dX0_anyAlive_28 : decode cX0_anyAlive 28 = .ok (.goto 9, 3) := by decide +kernel
theorem dX0_anyAlive_31 : decode cX0_anyAlive 31 = .ok (.aload_n 0, 1) := by decide +kernel
theorem dX0_anyAlive_32 : decode cX0_anyAlive 32 = .ok (.getfield 40, 3) := by decide +kernel
theorem dX0_anyAlive_35 : decode cX0_anyAlive 35 = .ok (.iload_n 3, 1) := by decide +kernel
theorem dX0_anyAlive_36 : decode cX0_anyAlive 36 = .ok (.iaload, 1) := by decide +kernel
theorem dX0_anyAlive_37 : decode cX0_anyAlive 37 = .ok (.istore 4, 2) := by decide +kernel
theorem dX0_anyAlive_39 : decode cX0_anyAlive 39 = .ok (.iload 4, 2) := by decide +kernel
theorem dX0_anyAlive_41 : decode cX0_anyAlive 41 = .ok (.aload_n 0, 1) := by decide +kernel
theorem dX0_anyAlive_42 : decode cX0_anyAlive 42 = .ok (.getfield 31, 3) := by decide +kernel
theorem dX0_anyAlive_45 : decode cX0_anyAlive 45 = .ok (.iload_n 1, 1) := by decide +kernel
theorem dX0_anyAlive_46 : decode cX0_anyAlive 46 = .ok (.bipush 16, 2) := by decide +kernel
theorem dX0_anyAlive_48 : decode cX0_anyAlive 48 = .ok (.imul, 1) := by decide +kernel
theorem dX0_anyAlive_49 : decode cX0_anyAlive 49 = .ok (.iload_n 3, 1) := by decide +kernel
theorem dX0_anyAlive_50 : decode cX0_anyAlive 50 = .ok (.iadd, 1) := by decide +kernel
theorem dX0_anyAlive_51 : decode cX0_anyAlive 51 = .ok (.iaload, 1) := by decide +kernel
theorem dX0_anyAlive_52 : decode cX0_anyAlive 52 = .ok (.iand, 1) := by decide +kernel
theorem dX0_anyAlive_53 : decode cX0_anyAlive 53 = .ok (.ifCond .eq 5, 3) := by decide +kernel
theorem dX0_anyAlive_56 : decode cX0_anyAlive 56 = .ok (.iconst 1, 1) := by decide +kernel
theorem dX0_anyAlive_57 : decode cX0_anyAlive 57 = .ok (.ireturn, 1) := by decide +kernel
theorem dX0_anyAlive_58 : decode cX0_anyAlive 58 = .ok (.iinc 3 1, 3) := by decide +kernel
theorem dX0_anyAlive_61 : decode cX0_anyAlive 61 = .ok (.goto (-49), 3) := by decide +kernel
theorem dX0_anyAlive_64 : decode cX0_anyAlive 64 = .ok (.iconst 0, 1) := by decide +kernel
theorem dX0_anyAlive_65 : decode cX0_anyAlive 65 = .ok (.ireturn, 1) := by decide +kernel
abbrev cX0_ones : ByteArray := prog_1_method_8_code
def yX0_ones : MethodName := ⟨RX0, "ones", "(I)I"⟩
theorem dX0_ones_0 : decode cX0_ones 0 = .ok (.iconst 0, 1) := by decide +kernel
theorem dX0_ones_1 : decode cX0_ones 1 = .ok (.istore_n 1, 1) := by decide +kernel
theorem dX0_ones_2 : decode cX0_ones 2 = .ok (.iconst 0, 1) := by decide +kernel
theorem dX0_ones_3 : decode cX0_ones 3 = .ok (.istore_n 2, 1) := by decide +kernel
theorem dX0_ones_4 : decode cX0_ones 4 = .ok (.iload_n 2, 1) := by decide +kernel
theorem dX0_ones_5 : decode cX0_ones 5 = .ok (.bipush 16, 2) := by decide +kernel
theorem dX0_ones_7 : decode cX0_ones 7 = .ok (.if_icmp .ge 17, 3) := by decide +kernel
theorem dX0_ones_10 : decode cX0_ones 10 = .ok (.iload_n 1, 1) := by decide +kernel
theorem dX0_ones_11 : decode cX0_ones 11 = .ok (.iload_n 0, 1) := by decide +kernel
theorem dX0_ones_12 : decode cX0_ones 12 = .ok (.iload_n 2, 1) := by decide +kernel
theorem dX0_ones_13 : decode cX0_ones 13 = .ok (.ishr, 1) := by decide +kernel
theorem dX0_ones_14 : decode cX0_ones 14 = .ok (.iconst 1, 1) := by decide +kernel
theorem dX0_ones_15 : decode cX0_ones 15 = .ok (.iand, 1) := by decide +kernel
theorem dX0_ones_16 : decode cX0_ones 16 = .ok (.iadd, 1) := by decide +kernel
theorem dX0_ones_17 : decode cX0_ones 17 = .ok (.istore_n 1, 1) := by decide +kernel
theorem dX0_ones_18 : decode cX0_ones 18 = .ok (.iinc 2 1, 3) := by decide +kernel
theorem dX0_ones_21 : decode cX0_ones 21 = .ok (.goto (-17), 3) := by decide +kernel
theorem dX0_ones_24 : decode cX0_ones 24 = .ok (.iload_n 1, 1) := by decide +kernel
theorem dX0_ones_25 : decode cX0_ones 25 = .ok (.ireturn, 1) := by decide +kernel
abbrev cX0_possible : ByteArray := prog_1_method_26_code
def yX0_possible : MethodName := ⟨RX0, "possible", "(III)Z"⟩
theorem dX0_possible_0 : decode cX0_possible 0 = .ok (.aload_n 0, 1) := by decide +kernel
theorem dX0_possible_1 : decode cX0_possible 1 = .ok (.iload_n 1, 1) := by decide +kernel
theorem dX0_possible_2 : decode cX0_possible 2 = .ok (.invokevirtual 57, 3) := by decide +kernel
theorem dX0_possible_5 : decode cX0_possible 5 = .ok (.ifCond .ne 23, 3) := by decide +kernel
theorem dX0_possible_8 : decode cX0_possible 8 = .ok (.iload_n 2, 1) := by decide +kernel
theorem dX0_possible_9 : decode cX0_possible 9 = .ok (.ifCond .lt 19, 3) := by decide +kernel
theorem dX0_possible_12 : decode cX0_possible 12 = .ok (.iload_n 2, 1) := by decide +kernel
theorem dX0_possible_13 : decode cX0_possible 13 = .ok (.bipush 15, 2) := by decide +kernel
theorem dX0_possible_15 : decode cX0_possible 15 = .ok (.if_icmp .gt 13, 3) := by decide +kernel
theorem dX0_possible_18 : decode cX0_possible 18 = .ok (.iload_n 3, 1) := by decide +kernel
theorem dX0_possible_19 : decode cX0_possible 19 = .ok (.ifCond .lt 9, 3) := by decide +kernel
theorem dX0_possible_22 : decode cX0_possible 22 = .ok (.iload_n 3, 1) := by decide +kernel
theorem dX0_possible_23 : decode cX0_possible 23 = .ok (.bipush 15, 2) := by decide +kernel
theorem dX0_possible_25 : decode cX0_possible 25 = .ok (.if_icmp .le 5, 3) := by decide +kernel
theorem dX0_possible_28 : decode cX0_possible 28 = .ok (.iconst 0, 1) := by decide +kernel
theorem dX0_possible_29 : decode cX0_possible 29 = .ok (.ireturn, 1) := by decide +kernel
theorem dX0_possible_30 : decode cX0_possible 30 = .ok (.aload_n 0, 1) := by decide +kernel
theorem dX0_possible_31 : decode cX0_possible 31 = .ok (.invokevirtual 120, 3) := by decide +kernel
theorem dX0_possible_34 : decode cX0_possible 34 = .ok (.aload_n 0, 1) := by decide +kernel
theorem dX0_possible_35 : decode cX0_possible 35 = .ok (.getfield 22, 3) := by decide +kernel
theorem dX0_possible_38 : decode cX0_possible 38 = .ok (.iload_n 1, 1) := by decide +kernel
theorem dX0_possible_39 : decode cX0_possible 39 = .ok (.bipush 16, 2) := by decide +kernel
theorem dX0_possible_41 : decode cX0_possible 41 = .ok (.imul, 1) := by decide +kernel
theorem dX0_possible_42 : decode cX0_possible 42 = .ok (.iload_n 2, 1) := by decide +kernel
theorem dX0_possible_43 : decode cX0_possible 43 = .ok (.iadd, 1) := by decide +kernel
theorem dX0_possible_44 : decode cX0_possible 44 = .ok (.iaload, 1) := by decide +kernel
theorem dX0_possible_45 : decode cX0_possible 45 = .ok (.iload_n 3, 1) := by decide +kernel
theorem dX0_possible_46 : decode cX0_possible 46 = .ok (.ishr, 1) := by decide +kernel
theorem dX0_possible_47 : decode cX0_possible 47 = .ok (.iconst 1, 1) := by decide +kernel
theorem dX0_possible_48 : decode cX0_possible 48 = .ok (.iand, 1) := by decide +kernel
theorem dX0_possible_49 : decode cX0_possible 49 = .ok (.iconst 1, 1) := by decide +kernel
theorem dX0_possible_50 : decode cX0_possible 50 = .ok (.if_icmp .ne 7, 3) := by decide +kernel
theorem dX0_possible_53 : decode cX0_possible 53 = .ok (.iconst 1, 1) := by decide +kernel
theorem dX0_possible_54 : decode cX0_possible 54 = .ok (.goto 4, 3) := by decide +kernel
theorem dX0_possible_57 : decode cX0_possible 57 = .ok (.iconst 0, 1) := by decide +kernel
theorem dX0_possible_58 : decode cX0_possible 58 = .ok (.ireturn, 1) := by decide +kernel
abbrev cX0_values : ByteArray := prog_1_method_27_code
def yX0_values : MethodName := ⟨RX0, "values", "(II)I"⟩
theorem dX0_values_0 : decode cX0_values 0 = .ok (.aload_n 0, 1) := by decide +kernel
theorem dX0_values_1 : decode cX0_values 1 = .ok (.iload_n 1, 1) := by decide +kernel
theorem dX0_values_2 : decode cX0_values 2 = .ok (.invokevirtual 57, 3) := by decide +kernel
theorem dX0_values_5 : decode cX0_values 5 = .ok (.ifCond .eq 6, 3) := by decide +kernel
theorem dX0_values_8 : decode cX0_values 8 = .ok (.bipush (-3), 2) := by decide +kernel
theorem dX0_values_10 : decode cX0_values 10 = .ok (.ireturn, 1) := by decide +kernel
theorem dX0_values_11 : decode cX0_values 11 = .ok (.iload_n 2, 1) := by decide +kernel
theorem dX0_values_12 : decode cX0_values 12 = .ok (.ifCond .lt 8, 3) := by decide +kernel
theorem dX0_values_15 : decode cX0_values 15 = .ok (.iload_n 2, 1) := by decide +kernel
theorem dX0_values_16 : decode cX0_values 16 = .ok (.iconst 1, 1) := by decide +kernel
theorem dX0_values_17 : decode cX0_values 17 = .ok (.if_icmp .le 6, 3) := by decide +kernel
theorem dX0_values_20 : decode cX0_values 20 = .ok (.bipush (-4), 2) := by decide +kernel
theorem dX0_values_22 : decode cX0_values 22 = .ok (.ireturn, 1) := by decide +kernel
theorem dX0_values_23 : decode cX0_values 23 = .ok (.aload_n 0, 1) := by decide +kernel
theorem dX0_values_24 : decode cX0_values 24 = .ok (.invokevirtual 120, 3) := by decide +kernel
theorem dX0_values_27 : decode cX0_values 27 = .ok (.iconst 0, 1) := by decide +kernel
theorem dX0_values_28 : decode cX0_values 28 = .ok (.istore_n 3, 1) := by decide +kernel
theorem dX0_values_29 : decode cX0_values 29 = .ok (.iconst 0, 1) := by decide +kernel
theorem dX0_values_30 : decode cX0_values 30 = .ok (.istore 4, 2) := by decide +kernel
theorem dX0_values_32 : decode cX0_values 32 = .ok (.iload 4, 2) := by decide +kernel
theorem dX0_values_34 : decode cX0_values 34 = .ok (.bipush 16, 2) := by decide +kernel
theorem dX0_values_36 : decode cX0_values 36 = .ok (.if_icmp .ge 48, 3) := by decide +kernel
theorem dX0_values_39 : decode cX0_values 39 = .ok (.aload_n 0, 1) := by decide +kernel
theorem dX0_values_40 : decode cX0_values 40 = .ok (.getfield 22, 3) := by decide +kernel
theorem dX0_values_43 : decode cX0_values 43 = .ok (.iload_n 1, 1) := by decide +kernel
theorem dX0_values_44 : decode cX0_values 44 = .ok (.bipush 16, 2) := by decide +kernel
theorem dX0_values_46 : decode cX0_values 46 = .ok (.imul, 1) := by decide +kernel
theorem dX0_values_47 : decode cX0_values 47 = .ok (.iload 4, 2) := by decide +kernel
theorem dX0_values_49 : decode cX0_values 49 = .ok (.iadd, 1) := by decide +kernel
theorem dX0_values_50 : decode cX0_values 50 = .ok (.iaload, 1) := by decide +kernel
theorem dX0_values_51 : decode cX0_values 51 = .ok (.istore 5, 2) := by decide +kernel
theorem dX0_values_53 : decode cX0_values 53 = .ok (.iload_n 2, 1) := by decide +kernel
theorem dX0_values_54 : decode cX0_values 54 = .ok (.iconst 1, 1) := by decide +kernel
theorem dX0_values_55 : decode cX0_values 55 = .ok (.if_icmp .ne 11, 3) := by decide +kernel
theorem dX0_values_58 : decode cX0_values 58 = .ok (.iload_n 3, 1) := by decide +kernel
theorem dX0_values_59 : decode cX0_values 59 = .ok (.iload 5, 2) := by decide +kernel
theorem dX0_values_61 : decode cX0_values 61 = .ok (.ior, 1) := by decide +kernel
theorem dX0_values_62 : decode cX0_values 62 = .ok (.istore_n 3, 1) := by decide +kernel
theorem dX0_values_63 : decode cX0_values 63 = .ok (.goto 15, 3) := by decide +kernel
theorem dX0_values_66 : decode cX0_values 66 = .ok (.iload 5, 2) := by decide +kernel
theorem dX0_values_68 : decode cX0_values 68 = .ok (.ifCond .eq 10, 3) := by decide +kernel
theorem dX0_values_71 : decode cX0_values 71 = .ok (.iload_n 3, 1) := by decide +kernel
theorem dX0_values_72 : decode cX0_values 72 = .ok (.iconst 1, 1) := by decide +kernel
theorem dX0_values_73 : decode cX0_values 73 = .ok (.iload 4, 2) := by decide +kernel
theorem dX0_values_75 : decode cX0_values 75 = .ok (.ishl, 1) := by decide +kernel
theorem dX0_values_76 : decode cX0_values 76 = .ok (.ior, 1) := by decide +kernel
theorem dX0_values_77 : decode cX0_values 77 = .ok (.istore_n 3, 1) := by decide +kernel
theorem dX0_values_78 : decode cX0_values 78 = .ok (.iinc 4 1, 3) := by decide +kernel
theorem dX0_values_81 : decode cX0_values 81 = .ok (.goto (-49), 3) := by decide +kernel
theorem dX0_values_84 : decode cX0_values 84 = .ok (.iload_n 3, 1) := by decide +kernel
theorem dX0_values_85 : decode cX0_values 85 = .ok (.ireturn, 1) := by decide +kernel
abbrev cX0_traps : ByteArray := prog_1_method_29_code
def yX0_traps : MethodName := ⟨RX0, "traps", "(I)I"⟩
theorem dX0_traps_0 : decode cX0_traps 0 = .ok (.aload_n 0, 1) := by decide +kernel
theorem dX0_traps_1 : decode cX0_traps 1 = .ok (.iload_n 1, 1) := by decide +kernel
theorem dX0_traps_2 : decode cX0_traps 2 = .ok (.invokevirtual 57, 3) := by decide +kernel
theorem dX0_traps_5 : decode cX0_traps 5 = .ok (.ifCond .eq 6, 3) := by decide +kernel
theorem dX0_traps_8 : decode cX0_traps 8 = .ok (.bipush (-3), 2) := by decide +kernel
theorem dX0_traps_10 : decode cX0_traps 10 = .ok (.ireturn, 1) := by decide +kernel
theorem dX0_traps_11 : decode cX0_traps 11 = .ok (.aload_n 0, 1) := by decide +kernel
theorem dX0_traps_12 : decode cX0_traps 12 = .ok (.invokevirtual 120, 3) := by decide +kernel
theorem dX0_traps_15 : decode cX0_traps 15 = .ok (.aload_n 0, 1) := by decide +kernel
theorem dX0_traps_16 : decode cX0_traps 16 = .ok (.iload_n 1, 1) := by decide +kernel
theorem dX0_traps_17 : decode cX0_traps 17 = .ok (.invokevirtual 126, 3) := by decide +kernel
theorem dX0_traps_20 : decode cX0_traps 20 = .ok (.ireturn, 1) := by decide +kernel
abbrev cX0_trapsAt : ByteArray := prog_1_method_28_code
def yX0_trapsAt : MethodName := ⟨RX0, "trapsAt", "(I)I"⟩
theorem dX0_trapsAt_0 : decode cX0_trapsAt 0 = .ok (.iconst 0, 1) := by decide +kernel
theorem dX0_trapsAt_1 : decode cX0_trapsAt 1 = .ok (.istore_n 2, 1) := by decide +kernel
theorem dX0_trapsAt_2 : decode cX0_trapsAt 2 = .ok (.iload_n 2, 1) := by decide +kernel
theorem dX0_trapsAt_3 : decode cX0_trapsAt 3 = .ok (.bipush 16, 2) := by decide +kernel
theorem dX0_trapsAt_5 : decode cX0_trapsAt 5 = .ok (.if_icmp .ge 26, 3) := by decide +kernel
theorem dX0_trapsAt_8 : decode cX0_trapsAt 8 = .ok (.aload_n 0, 1) := by decide +kernel
theorem dX0_trapsAt_9 : decode cX0_trapsAt 9 = .ok (.getfield 37, 3) := by decide +kernel
theorem dX0_trapsAt_12 : decode cX0_trapsAt 12 = .ok (.iload_n 2, 1) := by decide +kernel
theorem dX0_trapsAt_13 : decode cX0_trapsAt 13 = .ok (.aload_n 0, 1) := by decide +kernel
theorem dX0_trapsAt_14 : decode cX0_trapsAt 14 = .ok (.getfield 22, 3) := by decide +kernel
theorem dX0_trapsAt_17 : decode cX0_trapsAt 17 = .ok (.iload_n 1, 1) := by decide +kernel
theorem dX0_trapsAt_18 : decode cX0_trapsAt 18 = .ok (.bipush 16, 2) := by decide +kernel
theorem dX0_trapsAt_20 : decode cX0_trapsAt 20 = .ok (.imul, 1) := by decide +kernel
theorem dX0_trapsAt_21 : decode cX0_trapsAt 21 = .ok (.iload_n 2, 1) := by decide +kernel
theorem dX0_trapsAt_22 : decode cX0_trapsAt 22 = .ok (.iadd, 1) := by decide +kernel
theorem dX0_trapsAt_23 : decode cX0_trapsAt 23 = .ok (.iaload, 1) := by decide +kernel
theorem dX0_trapsAt_24 : decode cX0_trapsAt 24 = .ok (.iastore, 1) := by decide +kernel
theorem dX0_trapsAt_25 : decode cX0_trapsAt 25 = .ok (.iinc 2 1, 3) := by decide +kernel
theorem dX0_trapsAt_28 : decode cX0_trapsAt 28 = .ok (.goto (-26), 3) := by decide +kernel
theorem dX0_trapsAt_31 : decode cX0_trapsAt 31 = .ok (.aload_n 0, 1) := by decide +kernel
theorem dX0_trapsAt_32 : decode cX0_trapsAt 32 = .ok (.iload_n 1, 1) := by decide +kernel
theorem dX0_trapsAt_33 : decode cX0_trapsAt 33 = .ok (.invokevirtual 92, 3) := by decide +kernel
theorem dX0_trapsAt_36 : decode cX0_trapsAt 36 = .ok (.iconst 0, 1) := by decide +kernel
theorem dX0_trapsAt_37 : decode cX0_trapsAt 37 = .ok (.istore_n 2, 1) := by decide +kernel
theorem dX0_trapsAt_38 : decode cX0_trapsAt 38 = .ok (.iconst 0, 1) := by decide +kernel
theorem dX0_trapsAt_39 : decode cX0_trapsAt 39 = .ok (.istore_n 3, 1) := by decide +kernel
theorem dX0_trapsAt_40 : decode cX0_trapsAt 40 = .ok (.iload_n 3, 1) := by decide +kernel
theorem dX0_trapsAt_41 : decode cX0_trapsAt 41 = .ok (.bipush 16, 2) := by decide +kernel
theorem dX0_trapsAt_43 : decode cX0_trapsAt 43 = .ok (.if_icmp .ge 21, 3) := by decide +kernel
theorem dX0_trapsAt_46 : decode cX0_trapsAt 46 = .ok (.iload_n 2, 1) := by decide +kernel
theorem dX0_trapsAt_47 : decode cX0_trapsAt 47 = .ok (.aload_n 0, 1) := by decide +kernel
theorem dX0_trapsAt_48 : decode cX0_trapsAt 48 = .ok (.getfield 46, 3) := by decide +kernel
theorem dX0_trapsAt_51 : decode cX0_trapsAt 51 = .ok (.iload_n 3, 1) := by decide +kernel
theorem dX0_trapsAt_52 : decode cX0_trapsAt 52 = .ok (.iaload, 1) := by decide +kernel
theorem dX0_trapsAt_53 : decode cX0_trapsAt 53 = .ok (.invokestatic 123, 3) := by decide +kernel
theorem dX0_trapsAt_56 : decode cX0_trapsAt 56 = .ok (.iadd, 1) := by decide +kernel
theorem dX0_trapsAt_57 : decode cX0_trapsAt 57 = .ok (.istore_n 2, 1) := by decide +kernel
theorem dX0_trapsAt_58 : decode cX0_trapsAt 58 = .ok (.iinc 3 1, 3) := by decide +kernel
theorem dX0_trapsAt_61 : decode cX0_trapsAt 61 = .ok (.goto (-21), 3) := by decide +kernel
theorem dX0_trapsAt_64 : decode cX0_trapsAt 64 = .ok (.iload_n 2, 1) := by decide +kernel
theorem dX0_trapsAt_65 : decode cX0_trapsAt 65 = .ok (.ireturn, 1) := by decide +kernel
abbrev cX0_safe : ByteArray := prog_1_method_30_code
def yX0_safe : MethodName := ⟨RX0, "safe", "()Z"⟩
theorem dX0_safe_0 : decode cX0_safe 0 = .ok (.aload_n 0, 1) := by decide +kernel
theorem dX0_safe_1 : decode cX0_safe 1 = .ok (.invokevirtual 120, 3) := by decide +kernel
theorem dX0_safe_4 : decode cX0_safe 4 = .ok (.iconst 0, 1) := by decide +kernel
theorem dX0_safe_5 : decode cX0_safe 5 = .ok (.istore_n 1, 1) := by decide +kernel
theorem dX0_safe_6 : decode cX0_safe 6 = .ok (.iload_n 1, 1) := by decide +kernel
theorem dX0_safe_7 : decode cX0_safe 7 = .ok (.aload_n 0, 1) := by decide +kernel
theorem dX0_safe_8 : decode cX0_safe 8 = .ok (.getfield 49, 3) := by decide +kernel
theorem dX0_safe_11 : decode cX0_safe 11 = .ok (.if_icmp .ge 21, 3) := by decide +kernel
theorem dX0_safe_14 : decode cX0_safe 14 = .ok (.aload_n 0, 1) := by decide +kernel
theorem dX0_safe_15 : decode cX0_safe 15 = .ok (.iload_n 1, 1) := by decide +kernel
theorem dX0_safe_16 : decode cX0_safe 16 = .ok (.invokevirtual 126, 3) := by decide +kernel
theorem dX0_safe_19 : decode cX0_safe 19 = .ok (.istore_n 2, 1) := by decide +kernel
theorem dX0_safe_20 : decode cX0_safe 20 = .ok (.iload_n 2, 1) := by decide +kernel
theorem dX0_safe_21 : decode cX0_safe 21 = .ok (.ifCond .le 5, 3) := by decide +kernel
theorem dX0_safe_24 : decode cX0_safe 24 = .ok (.iconst 0, 1) := by decide +kernel
theorem dX0_safe_25 : decode cX0_safe 25 = .ok (.ireturn, 1) := by decide +kernel
theorem dX0_safe_26 : decode cX0_safe 26 = .ok (.iinc 1 1, 3) := by decide +kernel
theorem dX0_safe_29 : decode cX0_safe 29 = .ok (.goto (-23), 3) := by decide +kernel
theorem dX0_safe_32 : decode cX0_safe 32 = .ok (.iconst 1, 1) := by decide +kernel
theorem dX0_safe_33 : decode cX0_safe 33 = .ok (.ireturn, 1) := by decide +kernel
abbrev cX0_soonest : ByteArray := prog_1_method_31_code
def yX0_soonest : MethodName := ⟨RX0, "soonest", "(I)I"⟩
theorem dX0_soonest_0 : decode cX0_soonest 0 = .ok (.aload_n 0, 1) := by decide +kernel
theorem dX0_soonest_1 : decode cX0_soonest 1 = .ok (.iload_n 1, 1) := by decide +kernel
theorem dX0_soonest_2 : decode cX0_soonest 2 = .ok (.invokevirtual 57, 3) := by decide +kernel
theorem dX0_soonest_5 : decode cX0_soonest 5 = .ok (.ifCond .eq 6, 3) := by decide +kernel
theorem dX0_soonest_8 : decode cX0_soonest 8 = .ok (.bipush (-3), 2) := by decide +kernel
theorem dX0_soonest_10 : decode cX0_soonest 10 = .ok (.ireturn, 1) := by decide +kernel
theorem dX0_soonest_11 : decode cX0_soonest 11 = .ok (.aload_n 0, 1) := by decide +kernel
theorem dX0_soonest_12 : decode cX0_soonest 12 = .ok (.invokevirtual 120, 3) := by decide +kernel
theorem dX0_soonest_15 : decode cX0_soonest 15 = .ok (.aload_n 0, 1) := by decide +kernel
theorem dX0_soonest_16 : decode cX0_soonest 16 = .ok (.getfield 34, 3) := by decide +kernel
theorem dX0_soonest_19 : decode cX0_soonest 19 = .ok (.iload_n 1, 1) := by decide +kernel
theorem dX0_soonest_20 : decode cX0_soonest 20 = .ok (.iaload, 1) := by decide +kernel
theorem dX0_soonest_21 : decode cX0_soonest 21 = .ok (.ireturn, 1) := by decide +kernel
abbrev cX0_canEnd : ByteArray := prog_1_method_32_code
def yX0_canEnd : MethodName := ⟨RX0, "canEnd", "()Z"⟩
theorem dX0_canEnd_0 : decode cX0_canEnd 0 = .ok (.aload_n 0, 1) := by decide +kernel
theorem dX0_canEnd_1 : decode cX0_canEnd 1 = .ok (.invokevirtual 120, 3) := by decide +kernel
theorem dX0_canEnd_4 : decode cX0_canEnd 4 = .ok (.aload_n 0, 1) := by decide +kernel
theorem dX0_canEnd_5 : decode cX0_canEnd 5 = .ok (.getfield 86, 3) := by decide +kernel
theorem dX0_canEnd_8 : decode cX0_canEnd 8 = .ok (.ireturn, 1) := by decide +kernel
abbrev cX0_canRunForever : ByteArray := prog_1_method_33_code
def yX0_canRunForever : MethodName := ⟨RX0, "canRunForever", "()Z"⟩
theorem dX0_canRunForever_0 : decode cX0_canRunForever 0 = .ok (.aload_n 0, 1) := by decide +kernel
theorem dX0_canRunForever_1 : decode cX0_canRunForever 1 = .ok (.invokevirtual 129, 3) := by decide +kernel
theorem dX0_canRunForever_4 : decode cX0_canRunForever 4 = .ok (.istore_n 1, 1) := by decide +kernel
theorem dX0_canRunForever_5 : decode cX0_canRunForever 5 = .ok (.iload_n 1, 1) := by decide +kernel
theorem dX0_canRunForever_6 : decode cX0_canRunForever 6 = .ok (.ifCond .le 7, 3) := by decide +kernel
theorem dX0_canRunForever_9 : decode cX0_canRunForever 9 = .ok (.iconst 1, 1) := by decide +kernel
theorem dX0_canRunForever_10 : decode cX0_canRunForever 10 = .ok (.goto 4, 3) := by decide +kernel
theorem dX0_canRunForever_13 : decode cX0_canRunForever 13 = .ok (.iconst 0, 1) := by decide +kernel
theorem dX0_canRunForever_14 : decode cX0_canRunForever 14 = .ok (.ireturn, 1) := by decide +kernel
abbrev cX0_endless : ByteArray := prog_1_method_34_code
def yX0_endless : MethodName := ⟨RX0, "endless", "()I"⟩
theorem dX0_endless_0 : decode cX0_endless 0 = .ok (.aload_n 0, 1) := by decide +kernel
theorem dX0_endless_1 : decode cX0_endless 1 = .ok (.invokevirtual 120, 3) := by decide +kernel
theorem dX0_endless_4 : decode cX0_endless 4 = .ok (.iconst 0, 1) := by decide +kernel
theorem dX0_endless_5 : decode cX0_endless 5 = .ok (.istore_n 1, 1) := by decide +kernel
theorem dX0_endless_6 : decode cX0_endless 6 = .ok (.iconst 0, 1) := by decide +kernel
theorem dX0_endless_7 : decode cX0_endless 7 = .ok (.istore_n 2, 1) := by decide +kernel
theorem dX0_endless_8 : decode cX0_endless 8 = .ok (.iload_n 2, 1) := by decide +kernel
theorem dX0_endless_9 : decode cX0_endless 9 = .ok (.aload_n 0, 1) := by decide +kernel
theorem dX0_endless_10 : decode cX0_endless 10 = .ok (.getfield 49, 3) := by decide +kernel
theorem dX0_endless_13 : decode cX0_endless 13 = .ok (.bipush 16, 2) := by decide +kernel
theorem dX0_endless_15 : decode cX0_endless 15 = .ok (.imul, 1) := by decide +kernel
theorem dX0_endless_16 : decode cX0_endless 16 = .ok (.if_icmp .ge 21, 3) := by decide +kernel
theorem dX0_endless_19 : decode cX0_endless 19 = .ok (.iload_n 1, 1) := by decide +kernel
theorem dX0_endless_20 : decode cX0_endless 20 = .ok (.aload_n 0, 1) := by decide +kernel
theorem dX0_endless_21 : decode cX0_endless 21 = .ok (.getfield 31, 3) := by decide +kernel
theorem dX0_endless_24 : decode cX0_endless 24 = .ok (.iload_n 2, 1) := by decide +kernel
theorem dX0_endless_25 : decode cX0_endless 25 = .ok (.iaload, 1) := by decide +kernel
theorem dX0_endless_26 : decode cX0_endless 26 = .ok (.invokestatic 123, 3) := by decide +kernel
theorem dX0_endless_29 : decode cX0_endless 29 = .ok (.iadd, 1) := by decide +kernel
theorem dX0_endless_30 : decode cX0_endless 30 = .ok (.istore_n 1, 1) := by decide +kernel
theorem dX0_endless_31 : decode cX0_endless 31 = .ok (.iinc 2 1, 3) := by decide +kernel
theorem dX0_endless_34 : decode cX0_endless 34 = .ok (.goto (-26), 3) := by decide +kernel
theorem dX0_endless_37 : decode cX0_endless 37 = .ok (.iload_n 1, 1) := by decide +kernel
theorem dX0_endless_38 : decode cX0_endless 38 = .ok (.ireturn, 1) := by decide +kernel
theorem q28 : (Jvm.Cond.initialized "TrapProver") ∈ lw_all := lw_g (lw_at lw_m1 1 rfl) rfl
theorem q31 : (Jvm.Cond.instantiable "TrapProver" (16 : Nat)) ∈ lw_all := lw_g (lw_at lw_m1 4 rfl) rfl
theorem q33 : (Jvm.Cond.instanceMethod ({ cls := "TrapProver", name := "<init>", desc := "()V" } : Jvm.MethodName)) ∈ lw_all := lw_g (lw_at lw_m1 6 rfl) rfl
theorem q34 : (Jvm.Cond.code ({ cls := "TrapProver", name := "<init>", desc := "()V" } : Jvm.MethodName) prog_1_method_1_code (1 : Nat) (Option.none : Option Jvm.ClassFile.FieldType)) ∈ lw_all := lw_g (lw_at lw_m1 7 rfl) rfl
theorem q35 : (Jvm.Cond.methodLink "TrapProver" (1 : Nat) ({ cls := "java/lang/Object", name := "<init>", desc := "()V" } : Jvm.MethodName)) ∈ lw_all := lw_g (lw_at lw_m1 8 rfl) rfl
theorem q38 : (Jvm.Cond.fieldLink "TrapProver" (49 : Nat) "TrapProver" "length" "I") ∈ lw_all := lw_g (lw_at lw_m1 11 rfl) rfl
theorem q39 : (Jvm.Cond.fieldLink "TrapProver" (7 : Nat) "TrapProver" "op" "[I") ∈ lw_all := lw_g (lw_at lw_m1 12 rfl) rfl
theorem q40 : (Jvm.Cond.fieldLink "TrapProver" (13 : Nat) "TrapProver" "arg" "[I") ∈ lw_all := lw_g (lw_at lw_m1 13 rfl) rfl
theorem q41 : (Jvm.Cond.fieldLink "TrapProver" (16 : Nat) "TrapProver" "low" "[I") ∈ lw_all := lw_g (lw_at lw_m1 14 rfl) rfl
theorem q42 : (Jvm.Cond.fieldLink "TrapProver" (19 : Nat) "TrapProver" "high" "[I") ∈ lw_all := lw_g (lw_at lw_m1 15 rfl) rfl
theorem q43 : (Jvm.Cond.fieldLink "TrapProver" (53 : Nat) "TrapProver" "ready" "Z") ∈ lw_all := lw_g (lw_at lw_m1 16 rfl) rfl
theorem q44 : (Jvm.Cond.fieldLink "TrapProver" (22 : Nat) "TrapProver" "have" "[I") ∈ lw_all := lw_g (lw_at lw_m1 17 rfl) rfl
theorem q45 : (Jvm.Cond.fieldLink "TrapProver" (25 : Nat) "TrapProver" "fresh" "[I") ∈ lw_all := lw_g (lw_at lw_m1 18 rfl) rfl
theorem q46 : (Jvm.Cond.fieldLink "TrapProver" (28 : Nat) "TrapProver" "coming" "[I") ∈ lw_all := lw_g (lw_at lw_m1 19 rfl) rfl
theorem q47 : (Jvm.Cond.fieldLink "TrapProver" (31 : Nat) "TrapProver" "alive" "[I") ∈ lw_all := lw_g (lw_at lw_m1 20 rfl) rfl
theorem q48 : (Jvm.Cond.fieldLink "TrapProver" (34 : Nat) "TrapProver" "first" "[I") ∈ lw_all := lw_g (lw_at lw_m1 21 rfl) rfl
theorem q49 : (Jvm.Cond.fieldLink "TrapProver" (86 : Nat) "TrapProver" "ends" "Z") ∈ lw_all := lw_g (lw_at lw_m1 22 rfl) rfl
theorem q50 : (Jvm.Cond.fieldLink "TrapProver" (37 : Nat) "TrapProver" "in" "[I") ∈ lw_all := lw_g (lw_at lw_m1 23 rfl) rfl
theorem q51 : (Jvm.Cond.fieldLink "TrapProver" (40 : Nat) "TrapProver" "next" "[I") ∈ lw_all := lw_g (lw_at lw_m1 24 rfl) rfl
theorem q52 : (Jvm.Cond.fieldLink "TrapProver" (43 : Nat) "TrapProver" "away" "[I") ∈ lw_all := lw_g (lw_at lw_m1 25 rfl) rfl
theorem q53 : (Jvm.Cond.fieldLink "TrapProver" (46 : Nat) "TrapProver" "trap" "[I") ∈ lw_all := lw_g (lw_at lw_m1 26 rfl) rfl
theorem q54 : (Jvm.Cond.lays "TrapProver" "TrapProver" "length" "I") ∈ lw_all := lw_g (lw_at lw_m1 27 rfl) rfl
theorem q55 : (Jvm.Cond.soleField "TrapProver" "length") ∈ lw_all := lw_g (lw_at lw_m1 28 rfl) rfl
theorem q56 : (Jvm.Cond.laysFinal "TrapProver" "TrapProver" "op" "[I") ∈ lw_all := lw_g (lw_at lw_m1 29 rfl) rfl
theorem q57 : (Jvm.Cond.soleField "TrapProver" "op") ∈ lw_all := lw_g (lw_at lw_m1 30 rfl) rfl
theorem q58 : (Jvm.Cond.laysFinal "TrapProver" "TrapProver" "arg" "[I") ∈ lw_all := lw_g (lw_at lw_m1 31 rfl) rfl
theorem q59 : (Jvm.Cond.soleField "TrapProver" "arg") ∈ lw_all := lw_g (lw_at lw_m1 32 rfl) rfl
theorem q60 : (Jvm.Cond.laysFinal "TrapProver" "TrapProver" "low" "[I") ∈ lw_all := lw_g (lw_at lw_m1 33 rfl) rfl
theorem q61 : (Jvm.Cond.soleField "TrapProver" "low") ∈ lw_all := lw_g (lw_at lw_m1 34 rfl) rfl
theorem q62 : (Jvm.Cond.laysFinal "TrapProver" "TrapProver" "high" "[I") ∈ lw_all := lw_g (lw_at lw_m1 35 rfl) rfl
theorem q63 : (Jvm.Cond.soleField "TrapProver" "high") ∈ lw_all := lw_g (lw_at lw_m1 36 rfl) rfl
theorem q64 : (Jvm.Cond.lays "TrapProver" "TrapProver" "ready" "Z") ∈ lw_all := lw_g (lw_at lw_m1 37 rfl) rfl
theorem q65 : (Jvm.Cond.soleField "TrapProver" "ready") ∈ lw_all := lw_g (lw_at lw_m1 38 rfl) rfl
theorem q66 : (Jvm.Cond.laysFinal "TrapProver" "TrapProver" "have" "[I") ∈ lw_all := lw_g (lw_at lw_m1 39 rfl) rfl
theorem q67 : (Jvm.Cond.soleField "TrapProver" "have") ∈ lw_all := lw_g (lw_at lw_m1 40 rfl) rfl
theorem q68 : (Jvm.Cond.laysFinal "TrapProver" "TrapProver" "fresh" "[I") ∈ lw_all := lw_g (lw_at lw_m1 41 rfl) rfl
theorem q69 : (Jvm.Cond.soleField "TrapProver" "fresh") ∈ lw_all := lw_g (lw_at lw_m1 42 rfl) rfl
theorem q70 : (Jvm.Cond.laysFinal "TrapProver" "TrapProver" "coming" "[I") ∈ lw_all := lw_g (lw_at lw_m1 43 rfl) rfl
theorem q71 : (Jvm.Cond.soleField "TrapProver" "coming") ∈ lw_all := lw_g (lw_at lw_m1 44 rfl) rfl
theorem q72 : (Jvm.Cond.laysFinal "TrapProver" "TrapProver" "alive" "[I") ∈ lw_all := lw_g (lw_at lw_m1 45 rfl) rfl
theorem q73 : (Jvm.Cond.soleField "TrapProver" "alive") ∈ lw_all := lw_g (lw_at lw_m1 46 rfl) rfl
theorem q74 : (Jvm.Cond.laysFinal "TrapProver" "TrapProver" "first" "[I") ∈ lw_all := lw_g (lw_at lw_m1 47 rfl) rfl
theorem q75 : (Jvm.Cond.soleField "TrapProver" "first") ∈ lw_all := lw_g (lw_at lw_m1 48 rfl) rfl
theorem q76 : (Jvm.Cond.lays "TrapProver" "TrapProver" "ends" "Z") ∈ lw_all := lw_g (lw_at lw_m1 49 rfl) rfl
theorem q77 : (Jvm.Cond.soleField "TrapProver" "ends") ∈ lw_all := lw_g (lw_at lw_m1 50 rfl) rfl
theorem q78 : (Jvm.Cond.laysFinal "TrapProver" "TrapProver" "in" "[I") ∈ lw_all := lw_g (lw_at lw_m1 51 rfl) rfl
theorem q79 : (Jvm.Cond.soleField "TrapProver" "in") ∈ lw_all := lw_g (lw_at lw_m1 52 rfl) rfl
theorem q80 : (Jvm.Cond.laysFinal "TrapProver" "TrapProver" "next" "[I") ∈ lw_all := lw_g (lw_at lw_m1 53 rfl) rfl
theorem q81 : (Jvm.Cond.soleField "TrapProver" "next") ∈ lw_all := lw_g (lw_at lw_m1 54 rfl) rfl
theorem q82 : (Jvm.Cond.laysFinal "TrapProver" "TrapProver" "away" "[I") ∈ lw_all := lw_g (lw_at lw_m1 55 rfl) rfl
theorem q83 : (Jvm.Cond.soleField "TrapProver" "away") ∈ lw_all := lw_g (lw_at lw_m1 56 rfl) rfl
theorem q84 : (Jvm.Cond.laysFinal "TrapProver" "TrapProver" "trap" "[I") ∈ lw_all := lw_g (lw_at lw_m1 57 rfl) rfl
theorem q85 : (Jvm.Cond.soleField "TrapProver" "trap") ∈ lw_all := lw_g (lw_at lw_m1 58 rfl) rfl
theorem q86 : (Jvm.Cond.superclass "TrapProver" "java/lang/Object") ∈ lw_all := lw_g (lw_at lw_m1 59 rfl) rfl
theorem q89 : (Jvm.Cond.instanceMethod ({ cls := "TrapProver", name := "emit", desc := "(II)I" } : Jvm.MethodName)) ∈ lw_all := lw_g (lw_at lw_m1 62 rfl) rfl
theorem q90 : (Jvm.Cond.selects "TrapProver" ({ cls := "TrapProver", name := "emit", desc := "(II)I" } : Jvm.MethodName) ({ cls := "TrapProver", name := "emit", desc := "(II)I" } : Jvm.MethodName)) ∈ lw_all := lw_g (lw_at lw_m1 63 rfl) rfl
theorem q91 : (Jvm.Cond.code ({ cls := "TrapProver", name := "emit", desc := "(II)I" } : Jvm.MethodName) prog_1_method_3_code (3 : Nat) (Option.some Jvm.ClassFile.FieldType.int)) ∈ lw_all := lw_g (lw_at lw_m1 64 rfl) rfl
theorem q93 : (Jvm.Cond.instanceMethod ({ cls := "TrapProver", name := "patch", desc := "(II)I" } : Jvm.MethodName)) ∈ lw_all := lw_g (lw_at lw_m1 66 rfl) rfl
theorem q94 : (Jvm.Cond.selects "TrapProver" ({ cls := "TrapProver", name := "patch", desc := "(II)I" } : Jvm.MethodName) ({ cls := "TrapProver", name := "patch", desc := "(II)I" } : Jvm.MethodName)) ∈ lw_all := lw_g (lw_at lw_m1 67 rfl) rfl
theorem q95 : (Jvm.Cond.code ({ cls := "TrapProver", name := "patch", desc := "(II)I" } : Jvm.MethodName) prog_1_method_4_code (4 : Nat) (Option.some Jvm.ClassFile.FieldType.int)) ∈ lw_all := lw_g (lw_at lw_m1 68 rfl) rfl
theorem q96 : (Jvm.Cond.methodLink "TrapProver" (57 : Nat) ({ cls := "TrapProver", name := "noInstruction", desc := "(I)Z" } : Jvm.MethodName)) ∈ lw_all := lw_g (lw_at lw_m1 69 rfl) rfl
theorem q97 : (Jvm.Cond.privateMethod ({ cls := "TrapProver", name := "noInstruction", desc := "(I)Z" } : Jvm.MethodName)) ∈ lw_tbl := lw_at lw_m1 70 rfl
theorem q98 : (Jvm.Cond.instanceMethod ({ cls := "TrapProver", name := "noInstruction", desc := "(I)Z" } : Jvm.MethodName)) ∈ lw_all := lw_g (lw_at lw_m1 71 rfl) rfl
theorem q99 : (Jvm.Cond.code ({ cls := "TrapProver", name := "noInstruction", desc := "(I)Z" } : Jvm.MethodName) prog_1_method_2_code (2 : Nat) (Option.some Jvm.ClassFile.FieldType.boolean)) ∈ lw_all := lw_g (lw_at lw_m1 72 rfl) rfl
theorem q101 : (Jvm.Cond.instanceMethod ({ cls := "TrapProver", name := "begin", desc := "(III)I" } : Jvm.MethodName)) ∈ lw_all := lw_g (lw_at lw_m1 74 rfl) rfl
theorem q102 : (Jvm.Cond.selects "TrapProver" ({ cls := "TrapProver", name := "begin", desc := "(III)I" } : Jvm.MethodName) ({ cls := "TrapProver", name := "begin", desc := "(III)I" } : Jvm.MethodName)) ∈ lw_all := lw_g (lw_at lw_m1 75 rfl) rfl
theorem q103 : (Jvm.Cond.code ({ cls := "TrapProver", name := "begin", desc := "(III)I" } : Jvm.MethodName) prog_1_method_5_code (4 : Nat) (Option.some Jvm.ClassFile.FieldType.int)) ∈ lw_all := lw_g (lw_at lw_m1 76 rfl) rfl
theorem q105 : (Jvm.Cond.instanceMethod ({ cls := "TrapProver", name := "clear", desc := "()V" } : Jvm.MethodName)) ∈ lw_all := lw_g (lw_at lw_m1 78 rfl) rfl
theorem q106 : (Jvm.Cond.selects "TrapProver" ({ cls := "TrapProver", name := "clear", desc := "()V" } : Jvm.MethodName) ({ cls := "TrapProver", name := "clear", desc := "()V" } : Jvm.MethodName)) ∈ lw_all := lw_g (lw_at lw_m1 79 rfl) rfl
theorem q107 : (Jvm.Cond.code ({ cls := "TrapProver", name := "clear", desc := "()V" } : Jvm.MethodName) prog_1_method_6_code (1 : Nat) (Option.none : Option Jvm.ClassFile.FieldType)) ∈ lw_all := lw_g (lw_at lw_m1 80 rfl) rfl
theorem q109 : (Jvm.Cond.instanceMethod ({ cls := "TrapProver", name := "states", desc := "(I)I" } : Jvm.MethodName)) ∈ lw_all := lw_g (lw_at lw_m1 82 rfl) rfl
theorem q110 : (Jvm.Cond.selects "TrapProver" ({ cls := "TrapProver", name := "states", desc := "(I)I" } : Jvm.MethodName) ({ cls := "TrapProver", name := "states", desc := "(I)I" } : Jvm.MethodName)) ∈ lw_all := lw_g (lw_at lw_m1 83 rfl) rfl
theorem q111 : (Jvm.Cond.code ({ cls := "TrapProver", name := "states", desc := "(I)I" } : Jvm.MethodName) prog_1_method_25_code (4 : Nat) (Option.some Jvm.ClassFile.FieldType.int)) ∈ lw_all := lw_g (lw_at lw_m1 84 rfl) rfl
theorem q112 : (Jvm.Cond.methodLink "TrapProver" (120 : Nat) ({ cls := "TrapProver", name := "prepare", desc := "()V" } : Jvm.MethodName)) ∈ lw_all := lw_g (lw_at lw_m1 85 rfl) rfl
theorem q113 : (Jvm.Cond.privateMethod ({ cls := "TrapProver", name := "prepare", desc := "()V" } : Jvm.MethodName)) ∈ lw_tbl := lw_at lw_m1 86 rfl
theorem q114 : (Jvm.Cond.instanceMethod ({ cls := "TrapProver", name := "prepare", desc := "()V" } : Jvm.MethodName)) ∈ lw_all := lw_g (lw_at lw_m1 87 rfl) rfl
theorem q115 : (Jvm.Cond.code ({ cls := "TrapProver", name := "prepare", desc := "()V" } : Jvm.MethodName) prog_1_method_20_code (4 : Nat) (Option.none : Option Jvm.ClassFile.FieldType)) ∈ lw_all := lw_g (lw_at lw_m1 88 rfl) rfl
theorem q116 : (Jvm.Cond.methodLink "TrapProver" (100 : Nat) ({ cls := "TrapProver", name := "settle", desc := "(I)Z" } : Jvm.MethodName)) ∈ lw_all := lw_g (lw_at lw_m1 89 rfl) rfl
theorem q117 : (Jvm.Cond.privateMethod ({ cls := "TrapProver", name := "settle", desc := "(I)Z" } : Jvm.MethodName)) ∈ lw_tbl := lw_at lw_m1 90 rfl
theorem q118 : (Jvm.Cond.instanceMethod ({ cls := "TrapProver", name := "settle", desc := "(I)Z" } : Jvm.MethodName)) ∈ lw_all := lw_g (lw_at lw_m1 91 rfl) rfl
theorem q119 : (Jvm.Cond.code ({ cls := "TrapProver", name := "settle", desc := "(I)Z" } : Jvm.MethodName) prog_1_method_19_code (4 : Nat) (Option.some Jvm.ClassFile.FieldType.boolean)) ∈ lw_all := lw_g (lw_at lw_m1 92 rfl) rfl
theorem q120 : (Jvm.Cond.methodLink "TrapProver" (103 : Nat) ({ cls := "TrapProver", name := "passOn", desc := "()V" } : Jvm.MethodName)) ∈ lw_all := lw_g (lw_at lw_m1 93 rfl) rfl
theorem q121 : (Jvm.Cond.privateMethod ({ cls := "TrapProver", name := "passOn", desc := "()V" } : Jvm.MethodName)) ∈ lw_tbl := lw_at lw_m1 94 rfl
theorem q122 : (Jvm.Cond.instanceMethod ({ cls := "TrapProver", name := "passOn", desc := "()V" } : Jvm.MethodName)) ∈ lw_all := lw_g (lw_at lw_m1 95 rfl) rfl
theorem q123 : (Jvm.Cond.code ({ cls := "TrapProver", name := "passOn", desc := "()V" } : Jvm.MethodName) prog_1_method_18_code (3 : Nat) (Option.none : Option Jvm.ClassFile.FieldType)) ∈ lw_all := lw_g (lw_at lw_m1 96 rfl) rfl
theorem q124 : (Jvm.Cond.methodLink "TrapProver" (89 : Nat) ({ cls := "TrapProver", name := "takeFresh", desc := "(I)Z" } : Jvm.MethodName)) ∈ lw_all := lw_g (lw_at lw_m1 97 rfl) rfl
theorem q125 : (Jvm.Cond.privateMethod ({ cls := "TrapProver", name := "takeFresh", desc := "(I)Z" } : Jvm.MethodName)) ∈ lw_tbl := lw_at lw_m1 98 rfl
theorem q126 : (Jvm.Cond.instanceMethod ({ cls := "TrapProver", name := "takeFresh", desc := "(I)Z" } : Jvm.MethodName)) ∈ lw_all := lw_g (lw_at lw_m1 99 rfl) rfl
theorem q127 : (Jvm.Cond.code ({ cls := "TrapProver", name := "takeFresh", desc := "(I)Z" } : Jvm.MethodName) prog_1_method_16_code (4 : Nat) (Option.some Jvm.ClassFile.FieldType.boolean)) ∈ lw_all := lw_g (lw_at lw_m1 100 rfl) rfl
theorem q128 : (Jvm.Cond.methodLink "TrapProver" (92 : Nat) ({ cls := "TrapProver", name := "transfer", desc := "(I)V" } : Jvm.MethodName)) ∈ lw_all := lw_g (lw_at lw_m1 101 rfl) rfl
theorem q129 : (Jvm.Cond.privateMethod ({ cls := "TrapProver", name := "transfer", desc := "(I)V" } : Jvm.MethodName)) ∈ lw_tbl := lw_at lw_m1 102 rfl
theorem q130 : (Jvm.Cond.instanceMethod ({ cls := "TrapProver", name := "transfer", desc := "(I)V" } : Jvm.MethodName)) ∈ lw_all := lw_g (lw_at lw_m1 103 rfl) rfl
theorem q131 : (Jvm.Cond.code ({ cls := "TrapProver", name := "transfer", desc := "(I)V" } : Jvm.MethodName) prog_1_method_10_code (5 : Nat) (Option.none : Option Jvm.ClassFile.FieldType)) ∈ lw_all := lw_g (lw_at lw_m1 104 rfl) rfl
theorem q132 : (Jvm.Cond.methodLink "TrapProver" (62 : Nat) ({ cls := "TrapProver", name := "setRow", desc := "(III)V" } : Jvm.MethodName)) ∈ lw_all := lw_g (lw_at lw_m1 105 rfl) rfl
theorem q133 : (Jvm.Cond.privateMethod ({ cls := "TrapProver", name := "setRow", desc := "(III)V" } : Jvm.MethodName)) ∈ lw_tbl := lw_at lw_m1 106 rfl
theorem q134 : (Jvm.Cond.instanceMethod ({ cls := "TrapProver", name := "setRow", desc := "(III)V" } : Jvm.MethodName)) ∈ lw_all := lw_g (lw_at lw_m1 107 rfl) rfl
theorem q135 : (Jvm.Cond.code ({ cls := "TrapProver", name := "setRow", desc := "(III)V" } : Jvm.MethodName) prog_1_method_11_code (4 : Nat) (Option.none : Option Jvm.ClassFile.FieldType)) ∈ lw_all := lw_g (lw_at lw_m1 108 rfl) rfl
theorem q136 : (Jvm.Cond.methodLink "TrapProver" (66 : Nat) ({ cls := "TrapProver", name := "pairs", desc := "(II)V" } : Jvm.MethodName)) ∈ lw_all := lw_g (lw_at lw_m1 109 rfl) rfl
theorem q137 : (Jvm.Cond.privateMethod ({ cls := "TrapProver", name := "pairs", desc := "(II)V" } : Jvm.MethodName)) ∈ lw_tbl := lw_at lw_m1 110 rfl
theorem q138 : (Jvm.Cond.instanceMethod ({ cls := "TrapProver", name := "pairs", desc := "(II)V" } : Jvm.MethodName)) ∈ lw_all := lw_g (lw_at lw_m1 111 rfl) rfl
theorem q139 : (Jvm.Cond.code ({ cls := "TrapProver", name := "pairs", desc := "(II)V" } : Jvm.MethodName) prog_1_method_12_code (4 : Nat) (Option.none : Option Jvm.ClassFile.FieldType)) ∈ lw_all := lw_g (lw_at lw_m1 112 rfl) rfl
theorem q140 : (Jvm.Cond.methodLink "TrapProver" (76 : Nat) ({ cls := "TrapProver", name := "pair", desc := "(III)V" } : Jvm.MethodName)) ∈ lw_all := lw_g (lw_at lw_m1 113 rfl) rfl
theorem q141 : (Jvm.Cond.privateMethod ({ cls := "TrapProver", name := "pair", desc := "(III)V" } : Jvm.MethodName)) ∈ lw_tbl := lw_at lw_m1 114 rfl
theorem q142 : (Jvm.Cond.instanceMethod ({ cls := "TrapProver", name := "pair", desc := "(III)V" } : Jvm.MethodName)) ∈ lw_all := lw_g (lw_at lw_m1 115 rfl) rfl
theorem q143 : (Jvm.Cond.code ({ cls := "TrapProver", name := "pair", desc := "(III)V" } : Jvm.MethodName) prog_1_method_13_code (4 : Nat) (Option.none : Option Jvm.ClassFile.FieldType)) ∈ lw_all := lw_g (lw_at lw_m1 116 rfl) rfl
theorem q144 : (Jvm.Cond.methodLink "TrapProver" (79 : Nat) ({ cls := "TrapProver", name := "addPair", desc := "(II)V" } : Jvm.MethodName)) ∈ lw_all := lw_g (lw_at lw_m1 117 rfl) rfl
theorem q145 : (Jvm.Cond.privateMethod ({ cls := "TrapProver", name := "addPair", desc := "(II)V" } : Jvm.MethodName)) ∈ lw_tbl := lw_at lw_m1 118 rfl
theorem q146 : (Jvm.Cond.instanceMethod ({ cls := "TrapProver", name := "addPair", desc := "(II)V" } : Jvm.MethodName)) ∈ lw_all := lw_g (lw_at lw_m1 119 rfl) rfl
theorem q147 : (Jvm.Cond.code ({ cls := "TrapProver", name := "addPair", desc := "(II)V" } : Jvm.MethodName) prog_1_method_9_code (3 : Nat) (Option.none : Option Jvm.ClassFile.FieldType)) ∈ lw_all := lw_g (lw_at lw_m1 120 rfl) rfl
theorem q148 : (Jvm.Cond.methodLink "TrapProver" (70 : Nat) ({ cls := "TrapProver", name := "checkRow", desc := "(III)V" } : Jvm.MethodName)) ∈ lw_all := lw_g (lw_at lw_m1 121 rfl) rfl
theorem q149 : (Jvm.Cond.privateMethod ({ cls := "TrapProver", name := "checkRow", desc := "(III)V" } : Jvm.MethodName)) ∈ lw_tbl := lw_at lw_m1 122 rfl
theorem q150 : (Jvm.Cond.instanceMethod ({ cls := "TrapProver", name := "checkRow", desc := "(III)V" } : Jvm.MethodName)) ∈ lw_all := lw_g (lw_at lw_m1 123 rfl) rfl
theorem q151 : (Jvm.Cond.code ({ cls := "TrapProver", name := "checkRow", desc := "(III)V" } : Jvm.MethodName) prog_1_method_14_code (4 : Nat) (Option.none : Option Jvm.ClassFile.FieldType)) ∈ lw_all := lw_g (lw_at lw_m1 124 rfl) rfl
theorem q152 : (Jvm.Cond.constant "TrapProver" (61 : Nat) (65535 : Int32)) ∈ lw_all := lw_g (lw_at lw_m1 125 rfl) rfl
theorem q153 : (Jvm.Cond.methodLink "TrapProver" (73 : Nat) ({ cls := "TrapProver", name := "branchRow", desc := "(II)V" } : Jvm.MethodName)) ∈ lw_all := lw_g (lw_at lw_m1 126 rfl) rfl
theorem q154 : (Jvm.Cond.privateMethod ({ cls := "TrapProver", name := "branchRow", desc := "(II)V" } : Jvm.MethodName)) ∈ lw_tbl := lw_at lw_m1 127 rfl
theorem q155 : (Jvm.Cond.instanceMethod ({ cls := "TrapProver", name := "branchRow", desc := "(II)V" } : Jvm.MethodName)) ∈ lw_all := lw_g (lw_at lw_m1 128 rfl) rfl
theorem q156 : (Jvm.Cond.code ({ cls := "TrapProver", name := "branchRow", desc := "(II)V" } : Jvm.MethodName) prog_1_method_15_code (4 : Nat) (Option.none : Option Jvm.ClassFile.FieldType)) ∈ lw_all := lw_g (lw_at lw_m1 129 rfl) rfl
theorem q157 : (Jvm.Cond.methodLink "TrapProver" (82 : Nat) ({ cls := "TrapProver", name := "above", desc := "(I)I" } : Jvm.MethodName)) ∈ lw_all := lw_g (lw_at lw_m1 130 rfl) rfl
theorem q158 : (Jvm.Cond.static ({ cls := "TrapProver", name := "above", desc := "(I)I" } : Jvm.MethodName)) ∈ lw_all := lw_g (lw_at lw_m1 131 rfl) rfl
theorem q159 : (Jvm.Cond.code ({ cls := "TrapProver", name := "above", desc := "(I)I" } : Jvm.MethodName) prog_1_method_7_code (1 : Nat) (Option.some Jvm.ClassFile.FieldType.int)) ∈ lw_all := lw_g (lw_at lw_m1 132 rfl) rfl
theorem q160 : (Jvm.Cond.methodLink "TrapProver" (96 : Nat) ({ cls := "TrapProver", name := "send", desc := "(IZ)V" } : Jvm.MethodName)) ∈ lw_all := lw_g (lw_at lw_m1 133 rfl) rfl
theorem q161 : (Jvm.Cond.privateMethod ({ cls := "TrapProver", name := "send", desc := "(IZ)V" } : Jvm.MethodName)) ∈ lw_tbl := lw_at lw_m1 134 rfl
theorem q162 : (Jvm.Cond.instanceMethod ({ cls := "TrapProver", name := "send", desc := "(IZ)V" } : Jvm.MethodName)) ∈ lw_all := lw_g (lw_at lw_m1 135 rfl) rfl
theorem q163 : (Jvm.Cond.code ({ cls := "TrapProver", name := "send", desc := "(IZ)V" } : Jvm.MethodName) prog_1_method_17_code (6 : Nat) (Option.none : Option Jvm.ClassFile.FieldType)) ∈ lw_all := lw_g (lw_at lw_m1 136 rfl) rfl
theorem q164 : (Jvm.Cond.methodLink "TrapProver" (106 : Nat) ({ cls := "TrapProver", name := "findEndless", desc := "()V" } : Jvm.MethodName)) ∈ lw_all := lw_g (lw_at lw_m1 137 rfl) rfl
theorem q165 : (Jvm.Cond.privateMethod ({ cls := "TrapProver", name := "findEndless", desc := "()V" } : Jvm.MethodName)) ∈ lw_tbl := lw_at lw_m1 138 rfl
theorem q166 : (Jvm.Cond.instanceMethod ({ cls := "TrapProver", name := "findEndless", desc := "()V" } : Jvm.MethodName)) ∈ lw_all := lw_g (lw_at lw_m1 139 rfl) rfl
theorem q167 : (Jvm.Cond.code ({ cls := "TrapProver", name := "findEndless", desc := "()V" } : Jvm.MethodName) prog_1_method_24_code (5 : Nat) (Option.none : Option Jvm.ClassFile.FieldType)) ∈ lw_all := lw_g (lw_at lw_m1 140 rfl) rfl
theorem q168 : (Jvm.Cond.methodLink "TrapProver" (117 : Nat) ({ cls := "TrapProver", name := "prune", desc := "(I)Z" } : Jvm.MethodName)) ∈ lw_all := lw_g (lw_at lw_m1 141 rfl) rfl
theorem q169 : (Jvm.Cond.privateMethod ({ cls := "TrapProver", name := "prune", desc := "(I)Z" } : Jvm.MethodName)) ∈ lw_tbl := lw_at lw_m1 142 rfl
theorem q170 : (Jvm.Cond.instanceMethod ({ cls := "TrapProver", name := "prune", desc := "(I)Z" } : Jvm.MethodName)) ∈ lw_all := lw_g (lw_at lw_m1 143 rfl) rfl
theorem q171 : (Jvm.Cond.code ({ cls := "TrapProver", name := "prune", desc := "(I)Z" } : Jvm.MethodName) prog_1_method_21_code (7 : Nat) (Option.some Jvm.ClassFile.FieldType.boolean)) ∈ lw_all := lw_g (lw_at lw_m1 144 rfl) rfl
theorem q172 : (Jvm.Cond.methodLink "TrapProver" (109 : Nat) ({ cls := "TrapProver", name := "leadsOn", desc := "(III)Z" } : Jvm.MethodName)) ∈ lw_all := lw_g (lw_at lw_m1 145 rfl) rfl
theorem q173 : (Jvm.Cond.privateMethod ({ cls := "TrapProver", name := "leadsOn", desc := "(III)Z" } : Jvm.MethodName)) ∈ lw_tbl := lw_at lw_m1 146 rfl
theorem q174 : (Jvm.Cond.instanceMethod ({ cls := "TrapProver", name := "leadsOn", desc := "(III)Z" } : Jvm.MethodName)) ∈ lw_all := lw_g (lw_at lw_m1 147 rfl) rfl
theorem q175 : (Jvm.Cond.code ({ cls := "TrapProver", name := "leadsOn", desc := "(III)Z" } : Jvm.MethodName) prog_1_method_22_code (6 : Nat) (Option.some Jvm.ClassFile.FieldType.boolean)) ∈ lw_all := lw_g (lw_at lw_m1 148 rfl) rfl
theorem q176 : (Jvm.Cond.methodLink "TrapProver" (113 : Nat) ({ cls := "TrapProver", name := "anyAlive", desc := "(IZ)Z" } : Jvm.MethodName)) ∈ lw_all := lw_g (lw_at lw_m1 149 rfl) rfl
theorem q177 : (Jvm.Cond.privateMethod ({ cls := "TrapProver", name := "anyAlive", desc := "(IZ)Z" } : Jvm.MethodName)) ∈ lw_tbl := lw_at lw_m1 150 rfl
theorem q178 : (Jvm.Cond.instanceMethod ({ cls := "TrapProver", name := "anyAlive", desc := "(IZ)Z" } : Jvm.MethodName)) ∈ lw_all := lw_g (lw_at lw_m1 151 rfl) rfl
theorem q179 : (Jvm.Cond.code ({ cls := "TrapProver", name := "anyAlive", desc := "(IZ)Z" } : Jvm.MethodName) prog_1_method_23_code (5 : Nat) (Option.some Jvm.ClassFile.FieldType.boolean)) ∈ lw_all := lw_g (lw_at lw_m1 152 rfl) rfl
theorem q180 : (Jvm.Cond.methodLink "TrapProver" (123 : Nat) ({ cls := "TrapProver", name := "ones", desc := "(I)I" } : Jvm.MethodName)) ∈ lw_all := lw_g (lw_at lw_m1 153 rfl) rfl
theorem q181 : (Jvm.Cond.static ({ cls := "TrapProver", name := "ones", desc := "(I)I" } : Jvm.MethodName)) ∈ lw_all := lw_g (lw_at lw_m1 154 rfl) rfl
theorem q182 : (Jvm.Cond.code ({ cls := "TrapProver", name := "ones", desc := "(I)I" } : Jvm.MethodName) prog_1_method_8_code (3 : Nat) (Option.some Jvm.ClassFile.FieldType.int)) ∈ lw_all := lw_g (lw_at lw_m1 155 rfl) rfl
theorem q184 : (Jvm.Cond.instanceMethod ({ cls := "TrapProver", name := "possible", desc := "(III)Z" } : Jvm.MethodName)) ∈ lw_all := lw_g (lw_at lw_m1 157 rfl) rfl
theorem q185 : (Jvm.Cond.selects "TrapProver" ({ cls := "TrapProver", name := "possible", desc := "(III)Z" } : Jvm.MethodName) ({ cls := "TrapProver", name := "possible", desc := "(III)Z" } : Jvm.MethodName)) ∈ lw_all := lw_g (lw_at lw_m1 158 rfl) rfl
theorem q186 : (Jvm.Cond.code ({ cls := "TrapProver", name := "possible", desc := "(III)Z" } : Jvm.MethodName) prog_1_method_26_code (4 : Nat) (Option.some Jvm.ClassFile.FieldType.boolean)) ∈ lw_all := lw_g (lw_at lw_m1 159 rfl) rfl
theorem q188 : (Jvm.Cond.instanceMethod ({ cls := "TrapProver", name := "values", desc := "(II)I" } : Jvm.MethodName)) ∈ lw_all := lw_g (lw_at lw_m1 161 rfl) rfl
theorem q189 : (Jvm.Cond.selects "TrapProver" ({ cls := "TrapProver", name := "values", desc := "(II)I" } : Jvm.MethodName) ({ cls := "TrapProver", name := "values", desc := "(II)I" } : Jvm.MethodName)) ∈ lw_all := lw_g (lw_at lw_m1 162 rfl) rfl
theorem q190 : (Jvm.Cond.code ({ cls := "TrapProver", name := "values", desc := "(II)I" } : Jvm.MethodName) prog_1_method_27_code (6 : Nat) (Option.some Jvm.ClassFile.FieldType.int)) ∈ lw_all := lw_g (lw_at lw_m1 163 rfl) rfl
theorem q192 : (Jvm.Cond.instanceMethod ({ cls := "TrapProver", name := "traps", desc := "(I)I" } : Jvm.MethodName)) ∈ lw_all := lw_g (lw_at lw_m1 165 rfl) rfl
theorem q193 : (Jvm.Cond.selects "TrapProver" ({ cls := "TrapProver", name := "traps", desc := "(I)I" } : Jvm.MethodName) ({ cls := "TrapProver", name := "traps", desc := "(I)I" } : Jvm.MethodName)) ∈ lw_all := lw_g (lw_at lw_m1 166 rfl) rfl
theorem q194 : (Jvm.Cond.code ({ cls := "TrapProver", name := "traps", desc := "(I)I" } : Jvm.MethodName) prog_1_method_29_code (2 : Nat) (Option.some Jvm.ClassFile.FieldType.int)) ∈ lw_all := lw_g (lw_at lw_m1 167 rfl) rfl
theorem q195 : (Jvm.Cond.methodLink "TrapProver" (126 : Nat) ({ cls := "TrapProver", name := "trapsAt", desc := "(I)I" } : Jvm.MethodName)) ∈ lw_all := lw_g (lw_at lw_m1 168 rfl) rfl
theorem q196 : (Jvm.Cond.privateMethod ({ cls := "TrapProver", name := "trapsAt", desc := "(I)I" } : Jvm.MethodName)) ∈ lw_tbl := lw_at lw_m1 169 rfl
theorem q197 : (Jvm.Cond.instanceMethod ({ cls := "TrapProver", name := "trapsAt", desc := "(I)I" } : Jvm.MethodName)) ∈ lw_all := lw_g (lw_at lw_m1 170 rfl) rfl
theorem q198 : (Jvm.Cond.code ({ cls := "TrapProver", name := "trapsAt", desc := "(I)I" } : Jvm.MethodName) prog_1_method_28_code (4 : Nat) (Option.some Jvm.ClassFile.FieldType.int)) ∈ lw_all := lw_g (lw_at lw_m1 171 rfl) rfl
theorem q200 : (Jvm.Cond.instanceMethod ({ cls := "TrapProver", name := "safe", desc := "()Z" } : Jvm.MethodName)) ∈ lw_all := lw_g (lw_at lw_m1 173 rfl) rfl
theorem q201 : (Jvm.Cond.selects "TrapProver" ({ cls := "TrapProver", name := "safe", desc := "()Z" } : Jvm.MethodName) ({ cls := "TrapProver", name := "safe", desc := "()Z" } : Jvm.MethodName)) ∈ lw_all := lw_g (lw_at lw_m1 174 rfl) rfl
theorem q202 : (Jvm.Cond.code ({ cls := "TrapProver", name := "safe", desc := "()Z" } : Jvm.MethodName) prog_1_method_30_code (3 : Nat) (Option.some Jvm.ClassFile.FieldType.boolean)) ∈ lw_all := lw_g (lw_at lw_m1 175 rfl) rfl
theorem q204 : (Jvm.Cond.instanceMethod ({ cls := "TrapProver", name := "soonest", desc := "(I)I" } : Jvm.MethodName)) ∈ lw_all := lw_g (lw_at lw_m1 177 rfl) rfl
theorem q205 : (Jvm.Cond.selects "TrapProver" ({ cls := "TrapProver", name := "soonest", desc := "(I)I" } : Jvm.MethodName) ({ cls := "TrapProver", name := "soonest", desc := "(I)I" } : Jvm.MethodName)) ∈ lw_all := lw_g (lw_at lw_m1 178 rfl) rfl
theorem q206 : (Jvm.Cond.code ({ cls := "TrapProver", name := "soonest", desc := "(I)I" } : Jvm.MethodName) prog_1_method_31_code (2 : Nat) (Option.some Jvm.ClassFile.FieldType.int)) ∈ lw_all := lw_g (lw_at lw_m1 179 rfl) rfl
theorem q208 : (Jvm.Cond.instanceMethod ({ cls := "TrapProver", name := "canEnd", desc := "()Z" } : Jvm.MethodName)) ∈ lw_all := lw_g (lw_at lw_m1 181 rfl) rfl
theorem q209 : (Jvm.Cond.selects "TrapProver" ({ cls := "TrapProver", name := "canEnd", desc := "()Z" } : Jvm.MethodName) ({ cls := "TrapProver", name := "canEnd", desc := "()Z" } : Jvm.MethodName)) ∈ lw_all := lw_g (lw_at lw_m1 182 rfl) rfl
theorem q210 : (Jvm.Cond.code ({ cls := "TrapProver", name := "canEnd", desc := "()Z" } : Jvm.MethodName) prog_1_method_32_code (1 : Nat) (Option.some Jvm.ClassFile.FieldType.boolean)) ∈ lw_all := lw_g (lw_at lw_m1 183 rfl) rfl
theorem q212 : (Jvm.Cond.instanceMethod ({ cls := "TrapProver", name := "canRunForever", desc := "()Z" } : Jvm.MethodName)) ∈ lw_all := lw_g (lw_at lw_m1 185 rfl) rfl
theorem q213 : (Jvm.Cond.selects "TrapProver" ({ cls := "TrapProver", name := "canRunForever", desc := "()Z" } : Jvm.MethodName) ({ cls := "TrapProver", name := "canRunForever", desc := "()Z" } : Jvm.MethodName)) ∈ lw_all := lw_g (lw_at lw_m1 186 rfl) rfl
theorem q214 : (Jvm.Cond.code ({ cls := "TrapProver", name := "canRunForever", desc := "()Z" } : Jvm.MethodName) prog_1_method_33_code (2 : Nat) (Option.some Jvm.ClassFile.FieldType.boolean)) ∈ lw_all := lw_g (lw_at lw_m1 187 rfl) rfl
theorem q215 : (Jvm.Cond.methodLink "TrapProver" (129 : Nat) ({ cls := "TrapProver", name := "endless", desc := "()I" } : Jvm.MethodName)) ∈ lw_all := lw_g (lw_at lw_m1 188 rfl) rfl
theorem q216 : (Jvm.Cond.instanceMethod ({ cls := "TrapProver", name := "endless", desc := "()I" } : Jvm.MethodName)) ∈ lw_all := lw_g (lw_at lw_m1 189 rfl) rfl
theorem q217 : (Jvm.Cond.selects "TrapProver" ({ cls := "TrapProver", name := "endless", desc := "()I" } : Jvm.MethodName) ({ cls := "TrapProver", name := "endless", desc := "()I" } : Jvm.MethodName)) ∈ lw_all := lw_g (lw_at lw_m1 190 rfl) rfl
theorem q218 : (Jvm.Cond.code ({ cls := "TrapProver", name := "endless", desc := "()I" } : Jvm.MethodName) prog_1_method_34_code (3 : Nat) (Option.some Jvm.ClassFile.FieldType.int)) ∈ lw_all := lw_g (lw_at lw_m1 191 rfl) rfl
theorem in_X0 : ∀ w ∈ wsX00, w ∈ lw_all := lw_in wsX00 [54, 56, 58, 60, 62, 64, 66, 68, 70, 72, 74, 76, 78, 80, 82, 84] (by decide +kernel) (by decide +kernel)
end
section
/-! TrapProverModel -/
set_option maxRecDepth 100000
def RX1 : String := "TrapProverModel"
def TX1 : u_T := fun k => match k with
  | 0 => ("TrapProverModel", "size", "I", false)
  | 1 => ("TrapProverModel", "ops", "[I", true)
  | 2 => ("TrapProverModel", "cs", "[I", true)
  | 3 => ("TrapProverModel", "lows", "[I", true)
  | 4 => ("TrapProverModel", "highs", "[I", true)
  | 5 => ("TrapProverModel", "known", "Z", false)
  | 6 => ("TrapProverModel", "all", "[I", true)
  | 7 => ("TrapProverModel", "last", "[I", true)
  | 8 => ("TrapProverModel", "found", "[I", true)
  | 9 => ("TrapProverModel", "endless", "[I", true)
  | 10 => ("TrapProverModel", "first", "[I", true)
  | 11 => ("TrapProverModel", "trapped", "[I", true)
  | _ => ("TrapProverModel", "ends", "Z", false)
def tyX1 : Nat → FieldType := fun k => match k with
  | 0 => .int
  | 1 => .array .int
  | 2 => .array .int
  | 3 => .array .int
  | 4 => .array .int
  | 5 => .boolean
  | 6 => .array .int
  | 7 => .array .int
  | 8 => .array .int
  | 9 => .array .int
  | 10 => .array .int
  | 11 => .array .int
  | _ => .boolean
abbrev wsX10 : List Cond := u_ws RX1 TX1 13
set_option maxRecDepth 100000 in
theorem nmX1 : ∀ a, a < 13 → ∀ b, b < 13 → a ≠ b → (TX1 a).2.1 ≠ (TX1 b).2.1 := by decide +kernel
set_option maxRecDepth 100000 in
theorem tyX1_ok : ∀ k, k < 13 → parseFieldDescriptor (TX1 k).2.2.1 = some (tyX1 k) := by decide +kernel
abbrev cX1_init : ByteArray := prog_3_method_1_code
def yX1_init : MethodName := ⟨RX1, "<init>", "()V"⟩
theorem dX1_init_0 : decode cX1_init 0 = .ok (.aload_n 0, 1) := by decide +kernel
theorem dX1_init_1 : decode cX1_init 1 = .ok (.invokespecial 1, 3) := by decide +kernel
theorem dX1_init_4 : decode cX1_init 4 = .ok (.aload_n 0, 1) := by decide +kernel
theorem dX1_init_5 : decode cX1_init 5 = .ok (.bipush 16, 2) := by decide +kernel
theorem dX1_init_7 : decode cX1_init 7 = .ok (.newarray .int, 2) := by decide +kernel
theorem dX1_init_9 : decode cX1_init 9 = .ok (.putfield 7, 3) := by decide +kernel
theorem dX1_init_12 : decode cX1_init 12 = .ok (.aload_n 0, 1) := by decide +kernel
theorem dX1_init_13 : decode cX1_init 13 = .ok (.bipush 16, 2) := by decide +kernel
theorem dX1_init_15 : decode cX1_init 15 = .ok (.newarray .int, 2) := by decide +kernel
theorem dX1_init_17 : decode cX1_init 17 = .ok (.putfield 13, 3) := by decide +kernel
theorem dX1_init_20 : decode cX1_init 20 = .ok (.aload_n 0, 1) := by decide +kernel
theorem dX1_init_21 : decode cX1_init 21 = .ok (.iconst 2, 1) := by decide +kernel
theorem dX1_init_22 : decode cX1_init 22 = .ok (.newarray .int, 2) := by decide +kernel
theorem dX1_init_24 : decode cX1_init 24 = .ok (.putfield 16, 3) := by decide +kernel
theorem dX1_init_27 : decode cX1_init 27 = .ok (.aload_n 0, 1) := by decide +kernel
theorem dX1_init_28 : decode cX1_init 28 = .ok (.iconst 2, 1) := by decide +kernel
theorem dX1_init_29 : decode cX1_init 29 = .ok (.newarray .int, 2) := by decide +kernel
theorem dX1_init_31 : decode cX1_init 31 = .ok (.putfield 19, 3) := by decide +kernel
theorem dX1_init_34 : decode cX1_init 34 = .ok (.aload_n 0, 1) := by decide +kernel
theorem dX1_init_35 : decode cX1_init 35 = .ok (.sipush 256, 3) := by decide +kernel
theorem dX1_init_38 : decode cX1_init 38 = .ok (.newarray .int, 2) := by decide +kernel
theorem dX1_init_40 : decode cX1_init 40 = .ok (.putfield 22, 3) := by decide +kernel
theorem dX1_init_43 : decode cX1_init 43 = .ok (.aload_n 0, 1) := by decide +kernel
theorem dX1_init_44 : decode cX1_init 44 = .ok (.sipush 256, 3) := by decide +kernel
theorem dX1_init_47 : decode cX1_init 47 = .ok (.newarray .int, 2) := by decide +kernel
theorem dX1_init_49 : decode cX1_init 49 = .ok (.putfield 25, 3) := by decide +kernel
theorem dX1_init_52 : decode cX1_init 52 = .ok (.aload_n 0, 1) := by decide +kernel
theorem dX1_init_53 : decode cX1_init 53 = .ok (.sipush 256, 3) := by decide +kernel
theorem dX1_init_56 : decode cX1_init 56 = .ok (.newarray .int, 2) := by decide +kernel
theorem dX1_init_58 : decode cX1_init 58 = .ok (.putfield 28, 3) := by decide +kernel
theorem dX1_init_61 : decode cX1_init 61 = .ok (.aload_n 0, 1) := by decide +kernel
theorem dX1_init_62 : decode cX1_init 62 = .ok (.sipush 256, 3) := by decide +kernel
theorem dX1_init_65 : decode cX1_init 65 = .ok (.newarray .int, 2) := by decide +kernel
theorem dX1_init_67 : decode cX1_init 67 = .ok (.putfield 31, 3) := by decide +kernel
theorem dX1_init_70 : decode cX1_init 70 = .ok (.aload_n 0, 1) := by decide +kernel
theorem dX1_init_71 : decode cX1_init 71 = .ok (.bipush 16, 2) := by decide +kernel
theorem dX1_init_73 : decode cX1_init 73 = .ok (.newarray .int, 2) := by decide +kernel
theorem dX1_init_75 : decode cX1_init 75 = .ok (.putfield 34, 3) := by decide +kernel
theorem dX1_init_78 : decode cX1_init 78 = .ok (.aload_n 0, 1) := by decide +kernel
theorem dX1_init_79 : decode cX1_init 79 = .ok (.bipush 16, 2) := by decide +kernel
theorem dX1_init_81 : decode cX1_init 81 = .ok (.newarray .int, 2) := by decide +kernel
theorem dX1_init_83 : decode cX1_init 83 = .ok (.putfield 37, 3) := by decide +kernel
theorem dX1_init_86 : decode cX1_init 86 = .ok (.aload_n 0, 1) := by decide +kernel
theorem dX1_init_87 : decode cX1_init 87 = .ok (.getfield 19, 3) := by decide +kernel
theorem dX1_init_90 : decode cX1_init 90 = .ok (.iconst 0, 1) := by decide +kernel
theorem dX1_init_91 : decode cX1_init 91 = .ok (.bipush 15, 2) := by decide +kernel
theorem dX1_init_93 : decode cX1_init 93 = .ok (.iastore, 1) := by decide +kernel
theorem dX1_init_94 : decode cX1_init 94 = .ok (.aload_n 0, 1) := by decide +kernel
theorem dX1_init_95 : decode cX1_init 95 = .ok (.getfield 19, 3) := by decide +kernel
theorem dX1_init_98 : decode cX1_init 98 = .ok (.iconst 1, 1) := by decide +kernel
theorem dX1_init_99 : decode cX1_init 99 = .ok (.bipush 15, 2) := by decide +kernel
theorem dX1_init_101 : decode cX1_init 101 = .ok (.iastore, 1) := by decide +kernel
theorem dX1_init_102 : decode cX1_init 102 = .ok (.return_, 1) := by decide +kernel
abbrev cX1_emit : ByteArray := prog_3_method_2_code
def yX1_emit : MethodName := ⟨RX1, "emit", "(II)I"⟩
theorem dX1_emit_0 : decode cX1_emit 0 = .ok (.iload_n 1, 1) := by decide +kernel
theorem dX1_emit_1 : decode cX1_emit 1 = .ok (.ifCond .lt 9, 3) := by decide +kernel
theorem dX1_emit_4 : decode cX1_emit 4 = .ok (.iload_n 1, 1) := by decide +kernel
theorem dX1_emit_5 : decode cX1_emit 5 = .ok (.bipush 14, 2) := by decide +kernel
theorem dX1_emit_7 : decode cX1_emit 7 = .ok (.if_icmp .le 5, 3) := by decide +kernel
theorem dX1_emit_10 : decode cX1_emit 10 = .ok (.iconst (-1), 1) := by decide +kernel
theorem dX1_emit_11 : decode cX1_emit 11 = .ok (.ireturn, 1) := by decide +kernel
theorem dX1_emit_12 : decode cX1_emit 12 = .ok (.aload_n 0, 1) := by decide +kernel
theorem dX1_emit_13 : decode cX1_emit 13 = .ok (.getfield 40, 3) := by decide +kernel
theorem dX1_emit_16 : decode cX1_emit 16 = .ok (.bipush 16, 2) := by decide +kernel
theorem dX1_emit_18 : decode cX1_emit 18 = .ok (.if_icmp .ne 6, 3) := by decide +kernel
theorem dX1_emit_21 : decode cX1_emit 21 = .ok (.bipush (-2), 2) := by decide +kernel
theorem dX1_emit_23 : decode cX1_emit 23 = .ok (.ireturn, 1) := by decide +kernel
theorem dX1_emit_24 : decode cX1_emit 24 = .ok (.aload_n 0, 1) := by decide +kernel
theorem dX1_emit_25 : decode cX1_emit 25 = .ok (.getfield 7, 3) := by decide +kernel
theorem dX1_emit_28 : decode cX1_emit 28 = .ok (.aload_n 0, 1) := by decide +kernel
theorem dX1_emit_29 : decode cX1_emit 29 = .ok (.getfield 40, 3) := by decide +kernel
theorem dX1_emit_32 : decode cX1_emit 32 = .ok (.iload_n 1, 1) := by decide +kernel
theorem dX1_emit_33 : decode cX1_emit 33 = .ok (.iastore, 1) := by decide +kernel
theorem dX1_emit_34 : decode cX1_emit 34 = .ok (.aload_n 0, 1) := by decide +kernel
theorem dX1_emit_35 : decode cX1_emit 35 = .ok (.getfield 13, 3) := by decide +kernel
theorem dX1_emit_38 : decode cX1_emit 38 = .ok (.aload_n 0, 1) := by decide +kernel
theorem dX1_emit_39 : decode cX1_emit 39 = .ok (.getfield 40, 3) := by decide +kernel
theorem dX1_emit_42 : decode cX1_emit 42 = .ok (.iload_n 2, 1) := by decide +kernel
theorem dX1_emit_43 : decode cX1_emit 43 = .ok (.iastore, 1) := by decide +kernel
theorem dX1_emit_44 : decode cX1_emit 44 = .ok (.aload_n 0, 1) := by decide +kernel
theorem dX1_emit_45 : decode cX1_emit 45 = .ok (.aload_n 0, 1) := by decide +kernel
theorem dX1_emit_46 : decode cX1_emit 46 = .ok (.getfield 40, 3) := by decide +kernel
theorem dX1_emit_49 : decode cX1_emit 49 = .ok (.iconst 1, 1) := by decide +kernel
theorem dX1_emit_50 : decode cX1_emit 50 = .ok (.iadd, 1) := by decide +kernel
theorem dX1_emit_51 : decode cX1_emit 51 = .ok (.putfield 40, 3) := by decide +kernel
theorem dX1_emit_54 : decode cX1_emit 54 = .ok (.aload_n 0, 1) := by decide +kernel
theorem dX1_emit_55 : decode cX1_emit 55 = .ok (.iconst 0, 1) := by decide +kernel
theorem dX1_emit_56 : decode cX1_emit 56 = .ok (.putfield 44, 3) := by decide +kernel
theorem dX1_emit_59 : decode cX1_emit 59 = .ok (.aload_n 0, 1) := by decide +kernel
theorem dX1_emit_60 : decode cX1_emit 60 = .ok (.getfield 40, 3) := by decide +kernel
theorem dX1_emit_63 : decode cX1_emit 63 = .ok (.iconst 1, 1) := by decide +kernel
theorem dX1_emit_64 : decode cX1_emit 64 = .ok (.isub, 1) := by decide +kernel
theorem dX1_emit_65 : decode cX1_emit 65 = .ok (.ireturn, 1) := by decide +kernel
abbrev cX1_patch : ByteArray := prog_3_method_4_code
def yX1_patch : MethodName := ⟨RX1, "patch", "(II)I"⟩
theorem dX1_patch_0 : decode cX1_patch 0 = .ok (.aload_n 0, 1) := by decide +kernel
theorem dX1_patch_1 : decode cX1_patch 1 = .ok (.iload_n 1, 1) := by decide +kernel
theorem dX1_patch_2 : decode cX1_patch 2 = .ok (.invokevirtual 48, 3) := by decide +kernel
theorem dX1_patch_5 : decode cX1_patch 5 = .ok (.ifCond .eq 6, 3) := by decide +kernel
theorem dX1_patch_8 : decode cX1_patch 8 = .ok (.bipush (-3), 2) := by decide +kernel
theorem dX1_patch_10 : decode cX1_patch 10 = .ok (.ireturn, 1) := by decide +kernel
theorem dX1_patch_11 : decode cX1_patch 11 = .ok (.aload_n 0, 1) := by decide +kernel
theorem dX1_patch_12 : decode cX1_patch 12 = .ok (.getfield 13, 3) := by decide +kernel
theorem dX1_patch_15 : decode cX1_patch 15 = .ok (.iload_n 1, 1) := by decide +kernel
theorem dX1_patch_16 : decode cX1_patch 16 = .ok (.iaload, 1) := by decide +kernel
theorem dX1_patch_17 : decode cX1_patch 17 = .ok (.istore_n 3, 1) := by decide +kernel
theorem dX1_patch_18 : decode cX1_patch 18 = .ok (.aload_n 0, 1) := by decide +kernel
theorem dX1_patch_19 : decode cX1_patch 19 = .ok (.getfield 13, 3) := by decide +kernel
theorem dX1_patch_22 : decode cX1_patch 22 = .ok (.iload_n 1, 1) := by decide +kernel
theorem dX1_patch_23 : decode cX1_patch 23 = .ok (.iload_n 2, 1) := by decide +kernel
theorem dX1_patch_24 : decode cX1_patch 24 = .ok (.iastore, 1) := by decide +kernel
theorem dX1_patch_25 : decode cX1_patch 25 = .ok (.aload_n 0, 1) := by decide +kernel
theorem dX1_patch_26 : decode cX1_patch 26 = .ok (.iconst 0, 1) := by decide +kernel
theorem dX1_patch_27 : decode cX1_patch 27 = .ok (.putfield 44, 3) := by decide +kernel
theorem dX1_patch_30 : decode cX1_patch 30 = .ok (.iload_n 3, 1) := by decide +kernel
theorem dX1_patch_31 : decode cX1_patch 31 = .ok (.ireturn, 1) := by decide +kernel
abbrev cX1_bad : ByteArray := prog_3_method_3_code
def yX1_bad : MethodName := ⟨RX1, "bad", "(I)Z"⟩
theorem dX1_bad_0 : decode cX1_bad 0 = .ok (.iload_n 1, 1) := by decide +kernel
theorem dX1_bad_1 : decode cX1_bad 1 = .ok (.ifCond .lt 11, 3) := by decide +kernel
theorem dX1_bad_4 : decode cX1_bad 4 = .ok (.iload_n 1, 1) := by decide +kernel
theorem dX1_bad_5 : decode cX1_bad 5 = .ok (.aload_n 0, 1) := by decide +kernel
theorem dX1_bad_6 : decode cX1_bad 6 = .ok (.getfield 40, 3) := by decide +kernel
theorem dX1_bad_9 : decode cX1_bad 9 = .ok (.if_icmp .lt 7, 3) := by decide +kernel
theorem dX1_bad_12 : decode cX1_bad 12 = .ok (.iconst 1, 1) := by decide +kernel
theorem dX1_bad_13 : decode cX1_bad 13 = .ok (.goto 4, 3) := by decide +kernel
theorem dX1_bad_16 : decode cX1_bad 16 = .ok (.iconst 0, 1) := by decide +kernel
theorem dX1_bad_17 : decode cX1_bad 17 = .ok (.ireturn, 1) := by decide +kernel
abbrev cX1_begin : ByteArray := prog_3_method_5_code
def yX1_begin : MethodName := ⟨RX1, "begin", "(III)I"⟩
theorem dX1_begin_0 : decode cX1_begin 0 = .ok (.iload_n 1, 1) := by decide +kernel
theorem dX1_begin_1 : decode cX1_begin 1 = .ok (.ifCond .lt 23, 3) := by decide +kernel
theorem dX1_begin_4 : decode cX1_begin 4 = .ok (.iload_n 1, 1) := by decide +kernel
theorem dX1_begin_5 : decode cX1_begin 5 = .ok (.iconst 1, 1) := by decide +kernel
theorem dX1_begin_6 : decode cX1_begin 6 = .ok (.if_icmp .gt 18, 3) := by decide +kernel
theorem dX1_begin_9 : decode cX1_begin 9 = .ok (.iload_n 2, 1) := by decide +kernel
theorem dX1_begin_10 : decode cX1_begin 10 = .ok (.ifCond .lt 14, 3) := by decide +kernel
theorem dX1_begin_13 : decode cX1_begin 13 = .ok (.iload_n 2, 1) := by decide +kernel
theorem dX1_begin_14 : decode cX1_begin 14 = .ok (.iload_n 3, 1) := by decide +kernel
theorem dX1_begin_15 : decode cX1_begin 15 = .ok (.if_icmp .gt 9, 3) := by decide +kernel
theorem dX1_begin_18 : decode cX1_begin 18 = .ok (.iload_n 3, 1) := by decide +kernel
theorem dX1_begin_19 : decode cX1_begin 19 = .ok (.bipush 15, 2) := by decide +kernel
theorem dX1_begin_21 : decode cX1_begin 21 = .ok (.if_icmp .le 6, 3) := by decide +kernel
theorem dX1_begin_24 : decode cX1_begin 24 = .ok (.bipush (-4), 2) := by decide +kernel
theorem dX1_begin_26 : decode cX1_begin 26 = .ok (.ireturn, 1) := by decide +kernel
theorem dX1_begin_27 : decode cX1_begin 27 = .ok (.aload_n 0, 1) := by decide +kernel
theorem dX1_begin_28 : decode cX1_begin 28 = .ok (.getfield 16, 3) := by decide +kernel
theorem dX1_begin_31 : decode cX1_begin 31 = .ok (.iload_n 1, 1) := by decide +kernel
theorem dX1_begin_32 : decode cX1_begin 32 = .ok (.iload_n 2, 1) := by decide +kernel
theorem dX1_begin_33 : decode cX1_begin 33 = .ok (.iastore, 1) := by decide +kernel
theorem dX1_begin_34 : decode cX1_begin 34 = .ok (.aload_n 0, 1) := by decide +kernel
theorem dX1_begin_35 : decode cX1_begin 35 = .ok (.getfield 19, 3) := by decide +kernel
theorem dX1_begin_38 : decode cX1_begin 38 = .ok (.iload_n 1, 1) := by decide +kernel
theorem dX1_begin_39 : decode cX1_begin 39 = .ok (.iload_n 3, 1) := by decide +kernel
theorem dX1_begin_40 : decode cX1_begin 40 = .ok (.iastore, 1) := by decide +kernel
theorem dX1_begin_41 : decode cX1_begin 41 = .ok (.aload_n 0, 1) := by decide +kernel
theorem dX1_begin_42 : decode cX1_begin 42 = .ok (.iconst 0, 1) := by decide +kernel
theorem dX1_begin_43 : decode cX1_begin 43 = .ok (.putfield 44, 3) := by decide +kernel
theorem dX1_begin_46 : decode cX1_begin 46 = .ok (.iconst 0, 1) := by decide +kernel
theorem dX1_begin_47 : decode cX1_begin 47 = .ok (.ireturn, 1) := by decide +kernel
abbrev cX1_clear : ByteArray := prog_3_method_6_code
def yX1_clear : MethodName := ⟨RX1, "clear", "()V"⟩
theorem dX1_clear_0 : decode cX1_clear 0 = .ok (.aload_n 0, 1) := by decide +kernel
theorem dX1_clear_1 : decode cX1_clear 1 = .ok (.iconst 0, 1) := by decide +kernel
theorem dX1_clear_2 : decode cX1_clear 2 = .ok (.putfield 40, 3) := by decide +kernel
theorem dX1_clear_5 : decode cX1_clear 5 = .ok (.aload_n 0, 1) := by decide +kernel
theorem dX1_clear_6 : decode cX1_clear 6 = .ok (.iconst 0, 1) := by decide +kernel
theorem dX1_clear_7 : decode cX1_clear 7 = .ok (.putfield 44, 3) := by decide +kernel
theorem dX1_clear_10 : decode cX1_clear 10 = .ok (.return_, 1) := by decide +kernel
abbrev cX1_states : ByteArray := prog_3_method_15_code
def yX1_states : MethodName := ⟨RX1, "states", "(I)I"⟩
theorem dX1_states_0 : decode cX1_states 0 = .ok (.aload_n 0, 1) := by decide +kernel
theorem dX1_states_1 : decode cX1_states 1 = .ok (.iload_n 1, 1) := by decide +kernel
theorem dX1_states_2 : decode cX1_states 2 = .ok (.invokevirtual 48, 3) := by decide +kernel
theorem dX1_states_5 : decode cX1_states 5 = .ok (.ifCond .eq 6, 3) := by decide +kernel
theorem dX1_states_8 : decode cX1_states 8 = .ok (.bipush (-3), 2) := by decide +kernel
theorem dX1_states_10 : decode cX1_states 10 = .ok (.ireturn, 1) := by decide +kernel
theorem dX1_states_11 : decode cX1_states 11 = .ok (.aload_n 0, 1) := by decide +kernel
theorem dX1_states_12 : decode cX1_states 12 = .ok (.invokevirtual 76, 3) := by decide +kernel
theorem dX1_states_15 : decode cX1_states 15 = .ok (.iconst 0, 1) := by decide +kernel
theorem dX1_states_16 : decode cX1_states 16 = .ok (.istore_n 2, 1) := by decide +kernel
theorem dX1_states_17 : decode cX1_states 17 = .ok (.iconst 0, 1) := by decide +kernel
theorem dX1_states_18 : decode cX1_states 18 = .ok (.istore_n 3, 1) := by decide +kernel
theorem dX1_states_19 : decode cX1_states 19 = .ok (.iload_n 3, 1) := by decide +kernel
theorem dX1_states_20 : decode cX1_states 20 = .ok (.bipush 16, 2) := by decide +kernel
theorem dX1_states_22 : decode cX1_states 22 = .ok (.if_icmp .ge 31, 3) := by decide +kernel
theorem dX1_states_25 : decode cX1_states 25 = .ok (.aload_n 0, 1) := by decide +kernel
theorem dX1_states_26 : decode cX1_states 26 = .ok (.aload_n 0, 1) := by decide +kernel
theorem dX1_states_27 : decode cX1_states 27 = .ok (.getfield 22, 3) := by decide +kernel
theorem dX1_states_30 : decode cX1_states 30 = .ok (.iload_n 1, 1) := by decide +kernel
theorem dX1_states_31 : decode cX1_states 31 = .ok (.bipush 16, 2) := by decide +kernel
theorem dX1_states_33 : decode cX1_states 33 = .ok (.imul, 1) := by decide +kernel
theorem dX1_states_34 : decode cX1_states 34 = .ok (.iload_n 3, 1) := by decide +kernel
theorem dX1_states_35 : decode cX1_states 35 = .ok (.iadd, 1) := by decide +kernel
theorem dX1_states_36 : decode cX1_states 36 = .ok (.iaload, 1) := by decide +kernel
theorem dX1_states_37 : decode cX1_states 37 = .ok (.invokevirtual 79, 3) := by decide +kernel
theorem dX1_states_40 : decode cX1_states 40 = .ok (.istore 4, 2) := by decide +kernel
theorem dX1_states_42 : decode cX1_states 42 = .ok (.iload_n 2, 1) := by decide +kernel
theorem dX1_states_43 : decode cX1_states 43 = .ok (.iload 4, 2) := by decide +kernel
theorem dX1_states_45 : decode cX1_states 45 = .ok (.iadd, 1) := by decide +kernel
theorem dX1_states_46 : decode cX1_states 46 = .ok (.istore_n 2, 1) := by decide +kernel
theorem dX1_states_47 : decode cX1_states 47 = .ok (.iinc 3 1, 3) := by decide +kernel
theorem dX1_states_50 : decode cX1_states 50 = .ok (.goto (-31), 3) := by decide +kernel
theorem dX1_states_53 : decode cX1_states 53 = .ok (.iload_n 2, 1) := by decide +kernel
theorem dX1_states_54 : decode cX1_states 54 = .ok (.ireturn, 1) := by decide +kernel
abbrev cX1_workOut : ByteArray := prog_3_method_11_code
def yX1_workOut : MethodName := ⟨RX1, "workOut", "()V"⟩
theorem dX1_workOut_0 : decode cX1_workOut 0 = .ok (.aload_n 0, 1) := by decide +kernel
theorem dX1_workOut_1 : decode cX1_workOut 1 = .ok (.getfield 44, 3) := by decide +kernel
theorem dX1_workOut_4 : decode cX1_workOut 4 = .ok (.ifCond .eq 4, 3) := by decide +kernel
theorem dX1_workOut_7 : decode cX1_workOut 7 = .ok (.return_, 1) := by decide +kernel
theorem dX1_workOut_8 : decode cX1_workOut 8 = .ok (.aload_n 0, 1) := by decide +kernel
theorem dX1_workOut_9 : decode cX1_workOut 9 = .ok (.iconst 1, 1) := by decide +kernel
theorem dX1_workOut_10 : decode cX1_workOut 10 = .ok (.putfield 44, 3) := by decide +kernel
theorem dX1_workOut_13 : decode cX1_workOut 13 = .ok (.aload_n 0, 1) := by decide +kernel
theorem dX1_workOut_14 : decode cX1_workOut 14 = .ok (.iconst 0, 1) := by decide +kernel
theorem dX1_workOut_15 : decode cX1_workOut 15 = .ok (.putfield 60, 3) := by decide +kernel
theorem dX1_workOut_18 : decode cX1_workOut 18 = .ok (.iconst 0, 1) := by decide +kernel
theorem dX1_workOut_19 : decode cX1_workOut 19 = .ok (.istore_n 1, 1) := by decide +kernel
theorem dX1_workOut_20 : decode cX1_workOut 20 = .ok (.iload_n 1, 1) := by decide +kernel
theorem dX1_workOut_21 : decode cX1_workOut 21 = .ok (.sipush 256, 3) := by decide +kernel
theorem dX1_workOut_24 : decode cX1_workOut 24 = .ok (.if_icmp .ge 23, 3) := by decide +kernel
theorem dX1_workOut_27 : decode cX1_workOut 27 = .ok (.aload_n 0, 1) := by decide +kernel
theorem dX1_workOut_28 : decode cX1_workOut 28 = .ok (.getfield 22, 3) := by decide +kernel
theorem dX1_workOut_31 : decode cX1_workOut 31 = .ok (.iload_n 1, 1) := by decide +kernel
theorem dX1_workOut_32 : decode cX1_workOut 32 = .ok (.iconst 0, 1) := by decide +kernel
theorem dX1_workOut_33 : decode cX1_workOut 33 = .ok (.iastore, 1) := by decide +kernel
theorem dX1_workOut_34 : decode cX1_workOut 34 = .ok (.aload_n 0, 1) := by decide +kernel
theorem dX1_workOut_35 : decode cX1_workOut 35 = .ok (.getfield 28, 3) := by decide +kernel
theorem dX1_workOut_38 : decode cX1_workOut 38 = .ok (.iload_n 1, 1) := by decide +kernel
theorem dX1_workOut_39 : decode cX1_workOut 39 = .ok (.iconst 0, 1) := by decide +kernel
theorem dX1_workOut_40 : decode cX1_workOut 40 = .ok (.iastore, 1) := by decide +kernel
theorem dX1_workOut_41 : decode cX1_workOut 41 = .ok (.iinc 1 1, 3) := by decide +kernel
theorem dX1_workOut_44 : decode cX1_workOut 44 = .ok (.goto (-24), 3) := by decide +kernel
theorem dX1_workOut_47 : decode cX1_workOut 47 = .ok (.iconst 0, 1) := by decide +kernel
theorem dX1_workOut_48 : decode cX1_workOut 48 = .ok (.istore_n 1, 1) := by decide +kernel
theorem dX1_workOut_49 : decode cX1_workOut 49 = .ok (.iload_n 1, 1) := by decide +kernel
theorem dX1_workOut_50 : decode cX1_workOut 50 = .ok (.bipush 16, 2) := by decide +kernel
theorem dX1_workOut_52 : decode cX1_workOut 52 = .ok (.if_icmp .ge 24, 3) := by decide +kernel
theorem dX1_workOut_55 : decode cX1_workOut 55 = .ok (.aload_n 0, 1) := by decide +kernel
theorem dX1_workOut_56 : decode cX1_workOut 56 = .ok (.getfield 34, 3) := by decide +kernel
theorem dX1_workOut_59 : decode cX1_workOut 59 = .ok (.iload_n 1, 1) := by decide +kernel
theorem dX1_workOut_60 : decode cX1_workOut 60 = .ok (.bipush (-5), 2) := by decide +kernel
theorem dX1_workOut_62 : decode cX1_workOut 62 = .ok (.iastore, 1) := by decide +kernel
theorem dX1_workOut_63 : decode cX1_workOut 63 = .ok (.aload_n 0, 1) := by decide +kernel
theorem dX1_workOut_64 : decode cX1_workOut 64 = .ok (.getfield 37, 3) := by decide +kernel
theorem dX1_workOut_67 : decode cX1_workOut 67 = .ok (.iload_n 1, 1) := by decide +kernel
theorem dX1_workOut_68 : decode cX1_workOut 68 = .ok (.iconst 0, 1) := by decide +kernel
theorem dX1_workOut_69 : decode cX1_workOut 69 = .ok (.iastore, 1) := by decide +kernel
theorem dX1_workOut_70 : decode cX1_workOut 70 = .ok (.iinc 1 1, 3) := by decide +kernel
theorem dX1_workOut_73 : decode cX1_workOut 73 = .ok (.goto (-24), 3) := by decide +kernel
theorem dX1_workOut_76 : decode cX1_workOut 76 = .ok (.aload_n 0, 1) := by decide +kernel
theorem dX1_workOut_77 : decode cX1_workOut 77 = .ok (.getfield 16, 3) := by decide +kernel
theorem dX1_workOut_80 : decode cX1_workOut 80 = .ok (.iconst 0, 1) := by decide +kernel
theorem dX1_workOut_81 : decode cX1_workOut 81 = .ok (.iaload, 1) := by decide +kernel
theorem dX1_workOut_82 : decode cX1_workOut 82 = .ok (.istore_n 1, 1) := by decide +kernel
theorem dX1_workOut_83 : decode cX1_workOut 83 = .ok (.iload_n 1, 1) := by decide +kernel
theorem dX1_workOut_84 : decode cX1_workOut 84 = .ok (.aload_n 0, 1) := by decide +kernel
theorem dX1_workOut_85 : decode cX1_workOut 85 = .ok (.getfield 19, 3) := by decide +kernel
theorem dX1_workOut_88 : decode cX1_workOut 88 = .ok (.iconst 0, 1) := by decide +kernel
theorem dX1_workOut_89 : decode cX1_workOut 89 = .ok (.iaload, 1) := by decide +kernel
theorem dX1_workOut_90 : decode cX1_workOut 90 = .ok (.if_icmp .gt 55, 3) := by decide +kernel
theorem dX1_workOut_93 : decode cX1_workOut 93 = .ok (.aload_n 0, 1) := by decide +kernel
theorem dX1_workOut_94 : decode cX1_workOut 94 = .ok (.getfield 16, 3) := by decide +kernel
theorem dX1_workOut_97 : decode cX1_workOut 97 = .ok (.iconst 1, 1) := by decide +kernel
theorem dX1_workOut_98 : decode cX1_workOut 98 = .ok (.iaload, 1) := by decide +kernel
theorem dX1_workOut_99 : decode cX1_workOut 99 = .ok (.istore_n 2, 1) := by decide +kernel
theorem dX1_workOut_100 : decode cX1_workOut 100 = .ok (.iload_n 2, 1) := by decide +kernel
theorem dX1_workOut_101 : decode cX1_workOut 101 = .ok (.aload_n 0, 1) := by decide +kernel
theorem dX1_workOut_102 : decode cX1_workOut 102 = .ok (.getfield 19, 3) := by decide +kernel
theorem dX1_workOut_105 : decode cX1_workOut 105 = .ok (.iconst 1, 1) := by decide +kernel
theorem dX1_workOut_106 : decode cX1_workOut 106 = .ok (.iaload, 1) := by decide +kernel
theorem dX1_workOut_107 : decode cX1_workOut 107 = .ok (.if_icmp .gt 32, 3) := by decide +kernel
theorem dX1_workOut_110 : decode cX1_workOut 110 = .ok (.aload_n 0, 1) := by decide +kernel
theorem dX1_workOut_111 : decode cX1_workOut 111 = .ok (.getfield 40, 3) := by decide +kernel
theorem dX1_workOut_114 : decode cX1_workOut 114 = .ok (.ifCond .le 19, 3) := by decide +kernel
theorem dX1_workOut_117 : decode cX1_workOut 117 = .ok (.aload_n 0, 1) := by decide +kernel
theorem dX1_workOut_118 : decode cX1_workOut 118 = .ok (.getfield 28, 3) := by decide +kernel
theorem dX1_workOut_121 : decode cX1_workOut 121 = .ok (.iload_n 1, 1) := by decide +kernel
theorem dX1_workOut_122 : decode cX1_workOut 122 = .ok (.aload_n 0, 1) := by decide +kernel
theorem dX1_workOut_123 : decode cX1_workOut 123 = .ok (.getfield 28, 3) := by decide +kernel
theorem dX1_workOut_126 : decode cX1_workOut 126 = .ok (.iload_n 1, 1) := by decide +kernel
theorem dX1_workOut_127 : decode cX1_workOut 127 = .ok (.iaload, 1) := by decide +kernel
theorem dX1_workOut_128 : decode cX1_workOut 128 = .ok (.iconst 1, 1) := by decide +kernel
theorem dX1_workOut_129 : decode cX1_workOut 129 = .ok (.iload_n 2, 1) := by decide +kernel
theorem dX1_workOut_130 : decode cX1_workOut 130 = .ok (.ishl, 1) := by decide +kernel
theorem dX1_workOut_131 : decode cX1_workOut 131 = .ok (.ior, 1) := by decide +kernel
theorem dX1_workOut_132 : decode cX1_workOut 132 = .ok (.iastore, 1) := by decide +kernel
theorem dX1_workOut_133 : decode cX1_workOut 133 = .ok (.iinc 2 1, 3) := by decide +kernel
theorem dX1_workOut_136 : decode cX1_workOut 136 = .ok (.goto (-36), 3) := by decide +kernel
theorem dX1_workOut_139 : decode cX1_workOut 139 = .ok (.iinc 1 1, 3) := by decide +kernel
theorem dX1_workOut_142 : decode cX1_workOut 142 = .ok (.goto (-59), 3) := by decide +kernel
theorem dX1_workOut_145 : decode cX1_workOut 145 = .ok (.aload_n 0, 1) := by decide +kernel
theorem dX1_workOut_146 : decode cX1_workOut 146 = .ok (.iconst 0, 1) := by decide +kernel
theorem dX1_workOut_147 : decode cX1_workOut 147 = .ok (.invokevirtual 63, 3) := by decide +kernel
theorem dX1_workOut_150 : decode cX1_workOut 150 = .ok (.istore_n 1, 1) := by decide +kernel
theorem dX1_workOut_151 : decode cX1_workOut 151 = .ok (.iconst 1, 1) := by decide +kernel
theorem dX1_workOut_152 : decode cX1_workOut 152 = .ok (.istore_n 2, 1) := by decide +kernel
theorem dX1_workOut_153 : decode cX1_workOut 153 = .ok (.iload_n 2, 1) := by decide +kernel
theorem dX1_workOut_154 : decode cX1_workOut 154 = .ok (.sipush 4097, 3) := by decide +kernel
theorem dX1_workOut_157 : decode cX1_workOut 157 = .ok (.if_icmp .gt 23, 3) := by decide +kernel
theorem dX1_workOut_160 : decode cX1_workOut 160 = .ok (.iload_n 1, 1) := by decide +kernel
theorem dX1_workOut_161 : decode cX1_workOut 161 = .ok (.ifCond .eq 19, 3) := by decide +kernel
theorem dX1_workOut_164 : decode cX1_workOut 164 = .ok (.aload_n 0, 1) := by decide +kernel
theorem dX1_workOut_165 : decode cX1_workOut 165 = .ok (.invokevirtual 66, 3) := by decide +kernel
theorem dX1_workOut_168 : decode cX1_workOut 168 = .ok (.aload_n 0, 1) := by decide +kernel
theorem dX1_workOut_169 : decode cX1_workOut 169 = .ok (.iload_n 2, 1) := by decide +kernel
theorem dX1_workOut_170 : decode cX1_workOut 170 = .ok (.invokevirtual 63, 3) := by decide +kernel
theorem dX1_workOut_173 : decode cX1_workOut 173 = .ok (.istore_n 1, 1) := by decide +kernel
theorem dX1_workOut_174 : decode cX1_workOut 174 = .ok (.iinc 2 1, 3) := by decide +kernel
theorem dX1_workOut_177 : decode cX1_workOut 177 = .ok (.goto (-24), 3) := by decide +kernel
theorem dX1_workOut_180 : decode cX1_workOut 180 = .ok (.aload_n 0, 1) := by decide +kernel
theorem dX1_workOut_181 : decode cX1_workOut 181 = .ok (.invokevirtual 69, 3) := by decide +kernel
theorem dX1_workOut_184 : decode cX1_workOut 184 = .ok (.return_, 1) := by decide +kernel
abbrev cX1_take : ByteArray := prog_3_method_10_code
def yX1_take : MethodName := ⟨RX1, "take", "(I)Z"⟩
theorem dX1_take_0 : decode cX1_take 0 = .ok (.iconst 0, 1) := by decide +kernel
theorem dX1_take_1 : decode cX1_take 1 = .ok (.istore_n 2, 1) := by decide +kernel
theorem dX1_take_2 : decode cX1_take 2 = .ok (.iconst 0, 1) := by decide +kernel
theorem dX1_take_3 : decode cX1_take 3 = .ok (.istore_n 3, 1) := by decide +kernel
theorem dX1_take_4 : decode cX1_take 4 = .ok (.iload_n 3, 1) := by decide +kernel
theorem dX1_take_5 : decode cX1_take 5 = .ok (.sipush 256, 3) := by decide +kernel
theorem dX1_take_8 : decode cX1_take 8 = .ok (.if_icmp .ge 75, 3) := by decide +kernel
theorem dX1_take_11 : decode cX1_take 11 = .ok (.aload_n 0, 1) := by decide +kernel
theorem dX1_take_12 : decode cX1_take 12 = .ok (.getfield 22, 3) := by decide +kernel
theorem dX1_take_15 : decode cX1_take 15 = .ok (.iload_n 3, 1) := by decide +kernel
theorem dX1_take_16 : decode cX1_take 16 = .ok (.aload_n 0, 1) := by decide +kernel
theorem dX1_take_17 : decode cX1_take 17 = .ok (.getfield 22, 3) := by decide +kernel
theorem dX1_take_20 : decode cX1_take 20 = .ok (.iload_n 3, 1) := by decide +kernel
theorem dX1_take_21 : decode cX1_take 21 = .ok (.iaload, 1) := by decide +kernel
theorem dX1_take_22 : decode cX1_take 22 = .ok (.aload_n 0, 1) := by decide +kernel
theorem dX1_take_23 : decode cX1_take 23 = .ok (.getfield 28, 3) := by decide +kernel
theorem dX1_take_26 : decode cX1_take 26 = .ok (.iload_n 3, 1) := by decide +kernel
theorem dX1_take_27 : decode cX1_take 27 = .ok (.iaload, 1) := by decide +kernel
theorem dX1_take_28 : decode cX1_take 28 = .ok (.ior, 1) := by decide +kernel
theorem dX1_take_29 : decode cX1_take 29 = .ok (.iastore, 1) := by decide +kernel
theorem dX1_take_30 : decode cX1_take 30 = .ok (.aload_n 0, 1) := by decide +kernel
theorem dX1_take_31 : decode cX1_take 31 = .ok (.getfield 25, 3) := by decide +kernel
theorem dX1_take_34 : decode cX1_take 34 = .ok (.iload_n 3, 1) := by decide +kernel
theorem dX1_take_35 : decode cX1_take 35 = .ok (.aload_n 0, 1) := by decide +kernel
theorem dX1_take_36 : decode cX1_take 36 = .ok (.getfield 28, 3) := by decide +kernel
theorem dX1_take_39 : decode cX1_take 39 = .ok (.iload_n 3, 1) := by decide +kernel
theorem dX1_take_40 : decode cX1_take 40 = .ok (.iaload, 1) := by decide +kernel
theorem dX1_take_41 : decode cX1_take 41 = .ok (.iastore, 1) := by decide +kernel
theorem dX1_take_42 : decode cX1_take 42 = .ok (.aload_n 0, 1) := by decide +kernel
theorem dX1_take_43 : decode cX1_take 43 = .ok (.getfield 28, 3) := by decide +kernel
theorem dX1_take_46 : decode cX1_take 46 = .ok (.iload_n 3, 1) := by decide +kernel
theorem dX1_take_47 : decode cX1_take 47 = .ok (.iaload, 1) := by decide +kernel
theorem dX1_take_48 : decode cX1_take 48 = .ok (.ifCond .eq 29, 3) := by decide +kernel
theorem dX1_take_51 : decode cX1_take 51 = .ok (.iconst 1, 1) := by decide +kernel
theorem dX1_take_52 : decode cX1_take 52 = .ok (.istore_n 2, 1) := by decide +kernel
theorem dX1_take_53 : decode cX1_take 53 = .ok (.aload_n 0, 1) := by decide +kernel
theorem dX1_take_54 : decode cX1_take 54 = .ok (.getfield 34, 3) := by decide +kernel
theorem dX1_take_57 : decode cX1_take 57 = .ok (.iload_n 3, 1) := by decide +kernel
theorem dX1_take_58 : decode cX1_take 58 = .ok (.bipush 16, 2) := by decide +kernel
theorem dX1_take_60 : decode cX1_take 60 = .ok (.idiv, 1) := by decide +kernel
theorem dX1_take_61 : decode cX1_take 61 = .ok (.iaload, 1) := by decide +kernel
theorem dX1_take_62 : decode cX1_take 62 = .ok (.bipush (-5), 2) := by decide +kernel
theorem dX1_take_64 : decode cX1_take 64 = .ok (.if_icmp .ne 13, 3) := by decide +kernel
theorem dX1_take_67 : decode cX1_take 67 = .ok (.aload_n 0, 1) := by decide +kernel
theorem dX1_take_68 : decode cX1_take 68 = .ok (.getfield 34, 3) := by decide +kernel
theorem dX1_take_71 : decode cX1_take 71 = .ok (.iload_n 3, 1) := by decide +kernel
theorem dX1_take_72 : decode cX1_take 72 = .ok (.bipush 16, 2) := by decide +kernel
theorem dX1_take_74 : decode cX1_take 74 = .ok (.idiv, 1) := by decide +kernel
theorem dX1_take_75 : decode cX1_take 75 = .ok (.iload_n 1, 1) := by decide +kernel
theorem dX1_take_76 : decode cX1_take 76 = .ok (.iastore, 1) := by decide +kernel
theorem dX1_take_77 : decode cX1_take 77 = .ok (.iinc 3 1, 3) := by decide +kernel
theorem dX1_take_80 : decode cX1_take 80 = .ok (.goto (-76), 3) := by decide +kernel
theorem dX1_take_83 : decode cX1_take 83 = .ok (.iload_n 2, 1) := by decide +kernel
theorem dX1_take_84 : decode cX1_take 84 = .ok (.ireturn, 1) := by decide +kernel
abbrev cX1_round : ByteArray := prog_3_method_8_code
def yX1_round : MethodName := ⟨RX1, "round", "()V"⟩
theorem dX1_round_0 : decode cX1_round 0 = .ok (.iconst 0, 1) := by decide +kernel
theorem dX1_round_1 : decode cX1_round 1 = .ok (.istore_n 1, 1) := by decide +kernel
theorem dX1_round_2 : decode cX1_round 2 = .ok (.iload_n 1, 1) := by decide +kernel
theorem dX1_round_3 : decode cX1_round 3 = .ok (.sipush 256, 3) := by decide +kernel
theorem dX1_round_6 : decode cX1_round 6 = .ok (.if_icmp .ge 16, 3) := by decide +kernel
theorem dX1_round_9 : decode cX1_round 9 = .ok (.aload_n 0, 1) := by decide +kernel
theorem dX1_round_10 : decode cX1_round 10 = .ok (.getfield 28, 3) := by decide +kernel
theorem dX1_round_13 : decode cX1_round 13 = .ok (.iload_n 1, 1) := by decide +kernel
theorem dX1_round_14 : decode cX1_round 14 = .ok (.iconst 0, 1) := by decide +kernel
theorem dX1_round_15 : decode cX1_round 15 = .ok (.iastore, 1) := by decide +kernel
theorem dX1_round_16 : decode cX1_round 16 = .ok (.iinc 1 1, 3) := by decide +kernel
theorem dX1_round_19 : decode cX1_round 19 = .ok (.goto (-17), 3) := by decide +kernel
theorem dX1_round_22 : decode cX1_round 22 = .ok (.iconst 0, 1) := by decide +kernel
theorem dX1_round_23 : decode cX1_round 23 = .ok (.istore_n 1, 1) := by decide +kernel
theorem dX1_round_24 : decode cX1_round 24 = .ok (.iload_n 1, 1) := by decide +kernel
theorem dX1_round_25 : decode cX1_round 25 = .ok (.sipush 256, 3) := by decide +kernel
theorem dX1_round_28 : decode cX1_round 28 = .ok (.if_icmp .ge 50, 3) := by decide +kernel
theorem dX1_round_31 : decode cX1_round 31 = .ok (.iconst 0, 1) := by decide +kernel
theorem dX1_round_32 : decode cX1_round 32 = .ok (.istore_n 2, 1) := by decide +kernel
theorem dX1_round_33 : decode cX1_round 33 = .ok (.iload_n 2, 1) := by decide +kernel
theorem dX1_round_34 : decode cX1_round 34 = .ok (.bipush 16, 2) := by decide +kernel
theorem dX1_round_36 : decode cX1_round 36 = .ok (.if_icmp .ge 36, 3) := by decide +kernel
theorem dX1_round_39 : decode cX1_round 39 = .ok (.aload_n 0, 1) := by decide +kernel
theorem dX1_round_40 : decode cX1_round 40 = .ok (.getfield 25, 3) := by decide +kernel
theorem dX1_round_43 : decode cX1_round 43 = .ok (.iload_n 1, 1) := by decide +kernel
theorem dX1_round_44 : decode cX1_round 44 = .ok (.iaload, 1) := by decide +kernel
theorem dX1_round_45 : decode cX1_round 45 = .ok (.iload_n 2, 1) := by decide +kernel
theorem dX1_round_46 : decode cX1_round 46 = .ok (.ishr, 1) := by decide +kernel
theorem dX1_round_47 : decode cX1_round 47 = .ok (.iconst 1, 1) := by decide +kernel
theorem dX1_round_48 : decode cX1_round 48 = .ok (.iand, 1) := by decide +kernel
theorem dX1_round_49 : decode cX1_round 49 = .ok (.iconst 1, 1) := by decide +kernel
theorem dX1_round_50 : decode cX1_round 50 = .ok (.if_icmp .ne 16, 3) := by decide +kernel
theorem dX1_round_53 : decode cX1_round 53 = .ok (.aload_n 0, 1) := by decide +kernel
theorem dX1_round_54 : decode cX1_round 54 = .ok (.iload_n 1, 1) := by decide +kernel
theorem dX1_round_55 : decode cX1_round 55 = .ok (.bipush 16, 2) := by decide +kernel
theorem dX1_round_57 : decode cX1_round 57 = .ok (.idiv, 1) := by decide +kernel
theorem dX1_round_58 : decode cX1_round 58 = .ok (.iload_n 1, 1) := by decide +kernel
theorem dX1_round_59 : decode cX1_round 59 = .ok (.bipush 16, 2) := by decide +kernel
theorem dX1_round_61 : decode cX1_round 61 = .ok (.irem, 1) := by decide +kernel
theorem dX1_round_62 : decode cX1_round 62 = .ok (.iload_n 2, 1) := by decide +kernel
theorem dX1_round_63 : decode cX1_round 63 = .ok (.invokevirtual 52, 3) := by decide +kernel
theorem dX1_round_66 : decode cX1_round 66 = .ok (.iinc 2 1, 3) := by decide +kernel
theorem dX1_round_69 : decode cX1_round 69 = .ok (.goto (-36), 3) := by decide +kernel
theorem dX1_round_72 : decode cX1_round 72 = .ok (.iinc 1 1, 3) := by decide +kernel
theorem dX1_round_75 : decode cX1_round 75 = .ok (.goto (-51), 3) := by decide +kernel
theorem dX1_round_78 : decode cX1_round 78 = .ok (.return_, 1) := by decide +kernel
abbrev cX1_goOn : ByteArray := prog_3_method_9_code
def yX1_goOn : MethodName := ⟨RX1, "goOn", "(III)V"⟩
theorem dX1_goOn_0 : decode cX1_goOn 0 = .ok (.iconst 0, 1) := by decide +kernel
theorem dX1_goOn_1 : decode cX1_goOn 1 = .ok (.istore 4, 2) := by decide +kernel
theorem dX1_goOn_3 : decode cX1_goOn 3 = .ok (.iload 4, 2) := by decide +kernel
theorem dX1_goOn_5 : decode cX1_goOn 5 = .ok (.bipush 16, 2) := by decide +kernel
theorem dX1_goOn_7 : decode cX1_goOn 7 = .ok (.if_icmp .ge 119, 3) := by decide +kernel
theorem dX1_goOn_10 : decode cX1_goOn 10 = .ok (.iload 4, 2) := by decide +kernel
theorem dX1_goOn_12 : decode cX1_goOn 12 = .ok (.ifCond .eq 14, 3) := by decide +kernel
theorem dX1_goOn_15 : decode cX1_goOn 15 = .ok (.aload_n 0, 1) := by decide +kernel
theorem dX1_goOn_16 : decode cX1_goOn 16 = .ok (.getfield 7, 3) := by decide +kernel
theorem dX1_goOn_19 : decode cX1_goOn 19 = .ok (.iload_n 1, 1) := by decide +kernel
theorem dX1_goOn_20 : decode cX1_goOn 20 = .ok (.iaload, 1) := by decide +kernel
theorem dX1_goOn_21 : decode cX1_goOn 21 = .ok (.bipush 9, 2) := by decide +kernel
theorem dX1_goOn_23 : decode cX1_goOn 23 = .ok (.if_icmp .ne 97, 3) := by decide +kernel
theorem dX1_goOn_26 : decode cX1_goOn 26 = .ok (.aload_n 0, 1) := by decide +kernel
theorem dX1_goOn_27 : decode cX1_goOn 27 = .ok (.iload_n 1, 1) := by decide +kernel
theorem dX1_goOn_28 : decode cX1_goOn 28 = .ok (.iload_n 2, 1) := by decide +kernel
theorem dX1_goOn_29 : decode cX1_goOn 29 = .ok (.iload_n 3, 1) := by decide +kernel
theorem dX1_goOn_30 : decode cX1_goOn 30 = .ok (.iload 4, 2) := by decide +kernel
theorem dX1_goOn_32 : decode cX1_goOn 32 = .ok (.invokevirtual 56, 3) := by decide +kernel
theorem dX1_goOn_35 : decode cX1_goOn 35 = .ok (.istore 5, 2) := by decide +kernel
theorem dX1_goOn_37 : decode cX1_goOn 37 = .ok (.iload 5, 2) := by decide +kernel
theorem dX1_goOn_39 : decode cX1_goOn 39 = .ok (.bipush (-2), 2) := by decide +kernel
theorem dX1_goOn_41 : decode cX1_goOn 41 = .ok (.if_icmp .ne 20, 3) := by decide +kernel
theorem dX1_goOn_44 : decode cX1_goOn 44 = .ok (.aload_n 0, 1) := by decide +kernel
theorem dX1_goOn_45 : decode cX1_goOn 45 = .ok (.getfield 37, 3) := by decide +kernel
theorem dX1_goOn_48 : decode cX1_goOn 48 = .ok (.iload_n 1, 1) := by decide +kernel
theorem dX1_goOn_49 : decode cX1_goOn 49 = .ok (.aload_n 0, 1) := by decide +kernel
theorem dX1_goOn_50 : decode cX1_goOn 50 = .ok (.getfield 37, 3) := by decide +kernel
theorem dX1_goOn_53 : decode cX1_goOn 53 = .ok (.iload_n 1, 1) := by decide +kernel
theorem dX1_goOn_54 : decode cX1_goOn 54 = .ok (.iaload, 1) := by decide +kernel
theorem dX1_goOn_55 : decode cX1_goOn 55 = .ok (.iconst 1, 1) := by decide +kernel
theorem dX1_goOn_56 : decode cX1_goOn 56 = .ok (.iadd, 1) := by decide +kernel
theorem dX1_goOn_57 : decode cX1_goOn 57 = .ok (.iastore, 1) := by decide +kernel
theorem dX1_goOn_58 : decode cX1_goOn 58 = .ok (.goto 62, 3) := by decide +kernel
theorem dX1_goOn_61 : decode cX1_goOn 61 = .ok (.iload 5, 2) := by decide +kernel
theorem dX1_goOn_63 : decode cX1_goOn 63 = .ok (.iconst (-1), 1) := by decide +kernel
theorem dX1_goOn_64 : decode cX1_goOn 64 = .ok (.if_icmp .ne 11, 3) := by decide +kernel
theorem dX1_goOn_67 : decode cX1_goOn 67 = .ok (.aload_n 0, 1) := by decide +kernel
theorem dX1_goOn_68 : decode cX1_goOn 68 = .ok (.iconst 1, 1) := by decide +kernel
theorem dX1_goOn_69 : decode cX1_goOn 69 = .ok (.putfield 60, 3) := by decide +kernel
theorem dX1_goOn_72 : decode cX1_goOn 72 = .ok (.goto 48, 3) := by decide +kernel
theorem dX1_goOn_75 : decode cX1_goOn 75 = .ok (.iconst 1, 1) := by decide +kernel
theorem dX1_goOn_76 : decode cX1_goOn 76 = .ok (.iload 5, 2) := by decide +kernel
theorem dX1_goOn_78 : decode cX1_goOn 78 = .ok (.bipush 16, 2) := by decide +kernel
theorem dX1_goOn_80 : decode cX1_goOn 80 = .ok (.irem, 1) := by decide +kernel
theorem dX1_goOn_81 : decode cX1_goOn 81 = .ok (.ishl, 1) := by decide +kernel
theorem dX1_goOn_82 : decode cX1_goOn 82 = .ok (.istore 6, 2) := by decide +kernel
theorem dX1_goOn_84 : decode cX1_goOn 84 = .ok (.aload_n 0, 1) := by decide +kernel
theorem dX1_goOn_85 : decode cX1_goOn 85 = .ok (.getfield 28, 3) := by decide +kernel
theorem dX1_goOn_88 : decode cX1_goOn 88 = .ok (.iload 5, 2) := by decide +kernel
theorem dX1_goOn_90 : decode cX1_goOn 90 = .ok (.bipush 16, 2) := by decide +kernel
theorem dX1_goOn_92 : decode cX1_goOn 92 = .ok (.idiv, 1) := by decide +kernel
theorem dX1_goOn_93 : decode cX1_goOn 93 = .ok (.aload_n 0, 1) := by decide +kernel
theorem dX1_goOn_94 : decode cX1_goOn 94 = .ok (.getfield 28, 3) := by decide +kernel
theorem dX1_goOn_97 : decode cX1_goOn 97 = .ok (.iload 5, 2) := by decide +kernel
theorem dX1_goOn_99 : decode cX1_goOn 99 = .ok (.bipush 16, 2) := by decide +kernel
theorem dX1_goOn_101 : decode cX1_goOn 101 = .ok (.idiv, 1) := by decide +kernel
theorem dX1_goOn_102 : decode cX1_goOn 102 = .ok (.iaload, 1) := by decide +kernel
theorem dX1_goOn_103 : decode cX1_goOn 103 = .ok (.iload 6, 2) := by decide +kernel
theorem dX1_goOn_105 : decode cX1_goOn 105 = .ok (.aload_n 0, 1) := by decide +kernel
theorem dX1_goOn_106 : decode cX1_goOn 106 = .ok (.getfield 22, 3) := by decide +kernel
theorem dX1_goOn_109 : decode cX1_goOn 109 = .ok (.iload 5, 2) := by decide +kernel
theorem dX1_goOn_111 : decode cX1_goOn 111 = .ok (.bipush 16, 2) := by decide +kernel
theorem dX1_goOn_113 : decode cX1_goOn 113 = .ok (.idiv, 1) := by decide +kernel
theorem dX1_goOn_114 : decode cX1_goOn 114 = .ok (.iaload, 1) := by decide +kernel
theorem dX1_goOn_115 : decode cX1_goOn 115 = .ok (.iconst (-1), 1) := by decide +kernel
theorem dX1_goOn_116 : decode cX1_goOn 116 = .ok (.ixor, 1) := by decide +kernel
theorem dX1_goOn_117 : decode cX1_goOn 117 = .ok (.iand, 1) := by decide +kernel
theorem dX1_goOn_118 : decode cX1_goOn 118 = .ok (.ior, 1) := by decide +kernel
theorem dX1_goOn_119 : decode cX1_goOn 119 = .ok (.iastore, 1) := by decide +kernel
theorem dX1_goOn_120 : decode cX1_goOn 120 = .ok (.iinc 4 1, 3) := by decide +kernel
theorem dX1_goOn_123 : decode cX1_goOn 123 = .ok (.goto (-120), 3) := by decide +kernel
theorem dX1_goOn_126 : decode cX1_goOn 126 = .ok (.return_, 1) := by decide +kernel
abbrev cX1_after : ByteArray := prog_3_method_7_code
def yX1_after : MethodName := ⟨RX1, "after", "(IIII)I"⟩
theorem dX1_after_0 : decode cX1_after 0 = .ok (.aload_n 0, 1) := by decide +kernel
theorem dX1_after_1 : decode cX1_after 1 = .ok (.getfield 7, 3) := by decide +kernel
theorem dX1_after_4 : decode cX1_after 4 = .ok (.iload_n 1, 1) := by decide +kernel
theorem dX1_after_5 : decode cX1_after 5 = .ok (.iaload, 1) := by decide +kernel
theorem dX1_after_6 : decode cX1_after 6 = .ok (.istore 5, 2) := by decide +kernel
theorem dX1_after_8 : decode cX1_after 8 = .ok (.aload_n 0, 1) := by decide +kernel
theorem dX1_after_9 : decode cX1_after 9 = .ok (.getfield 13, 3) := by decide +kernel
theorem dX1_after_12 : decode cX1_after 12 = .ok (.iload_n 1, 1) := by decide +kernel
theorem dX1_after_13 : decode cX1_after 13 = .ok (.iaload, 1) := by decide +kernel
theorem dX1_after_14 : decode cX1_after 14 = .ok (.istore 6, 2) := by decide +kernel
theorem dX1_after_16 : decode cX1_after 16 = .ok (.iload_n 1, 1) := by decide +kernel
theorem dX1_after_17 : decode cX1_after 17 = .ok (.iconst 1, 1) := by decide +kernel
theorem dX1_after_18 : decode cX1_after 18 = .ok (.iadd, 1) := by decide +kernel
theorem dX1_after_19 : decode cX1_after 19 = .ok (.istore 7, 2) := by decide +kernel
theorem dX1_after_21 : decode cX1_after 21 = .ok (.iload_n 2, 1) := by decide +kernel
theorem dX1_after_22 : decode cX1_after 22 = .ok (.istore 8, 2) := by decide +kernel
theorem dX1_after_24 : decode cX1_after 24 = .ok (.iload_n 3, 1) := by decide +kernel
theorem dX1_after_25 : decode cX1_after 25 = .ok (.istore 9, 2) := by decide +kernel
theorem dX1_after_27 : decode cX1_after 27 = .ok (.iload 5, 2) := by decide +kernel
theorem dX1_after_29 : decode cX1_after 29 = .ok (.bipush 14, 2) := by decide +kernel
theorem dX1_after_31 : decode cX1_after 31 = .ok (.if_icmp .ne 5, 3) := by decide +kernel
theorem dX1_after_34 : decode cX1_after 34 = .ok (.iconst (-1), 1) := by decide +kernel
theorem dX1_after_35 : decode cX1_after 35 = .ok (.ireturn, 1) := by decide +kernel
theorem dX1_after_36 : decode cX1_after 36 = .ok (.iload 5, 2) := by decide +kernel
theorem dX1_after_38 : decode cX1_after 38 = .ok (.bipush 6, 2) := by decide +kernel
theorem dX1_after_40 : decode cX1_after 40 = .ok (.if_icmp .ne 7, 3) := by decide +kernel
theorem dX1_after_43 : decode cX1_after 43 = .ok (.iload_n 3, 1) := by decide +kernel
theorem dX1_after_44 : decode cX1_after 44 = .ok (.ifCond .eq 19, 3) := by decide +kernel
theorem dX1_after_47 : decode cX1_after 47 = .ok (.iload 5, 2) := by decide +kernel
theorem dX1_after_49 : decode cX1_after 49 = .ok (.bipush 8, 2) := by decide +kernel
theorem dX1_after_51 : decode cX1_after 51 = .ok (.if_icmp .ne 15, 3) := by decide +kernel
theorem dX1_after_54 : decode cX1_after 54 = .ok (.iload_n 2, 1) := by decide +kernel
theorem dX1_after_55 : decode cX1_after 55 = .ok (.iload 6, 2) := by decide +kernel
theorem dX1_after_57 : decode cX1_after 57 = .ok (.bipush 31, 2) := by decide +kernel
theorem dX1_after_59 : decode cX1_after 59 = .ok (.iand, 1) := by decide +kernel
theorem dX1_after_60 : decode cX1_after 60 = .ok (.if_icmp .lt 6, 3) := by decide +kernel
theorem dX1_after_63 : decode cX1_after 63 = .ok (.bipush (-2), 2) := by decide +kernel
theorem dX1_after_65 : decode cX1_after 65 = .ok (.ireturn, 1) := by decide +kernel
theorem dX1_after_66 : decode cX1_after 66 = .ok (.iload 5, 2) := by decide +kernel
theorem dX1_after_68 : decode cX1_after 68 = .ok (.ifCond .ne 10, 3) := by decide +kernel
theorem dX1_after_71 : decode cX1_after 71 = .ok (.iload 6, 2) := by decide +kernel
theorem dX1_after_73 : decode cX1_after 73 = .ok (.istore 8, 2) := by decide +kernel
theorem dX1_after_75 : decode cX1_after 75 = .ok (.goto 168, 3) := by decide +kernel
theorem dX1_after_78 : decode cX1_after 78 = .ok (.iload 5, 2) := by decide +kernel
theorem dX1_after_80 : decode cX1_after 80 = .ok (.iconst 1, 1) := by decide +kernel
theorem dX1_after_81 : decode cX1_after 81 = .ok (.if_icmp .ne 10, 3) := by decide +kernel
theorem dX1_after_84 : decode cX1_after 84 = .ok (.iload 6, 2) := by decide +kernel
theorem dX1_after_86 : decode cX1_after 86 = .ok (.istore 9, 2) := by decide +kernel
theorem dX1_after_88 : decode cX1_after 88 = .ok (.goto 155, 3) := by decide +kernel
theorem dX1_after_91 : decode cX1_after 91 = .ok (.iload 5, 2) := by decide +kernel
theorem dX1_after_93 : decode cX1_after 93 = .ok (.iconst 2, 1) := by decide +kernel
theorem dX1_after_94 : decode cX1_after 94 = .ok (.if_icmp .ne 12, 3) := by decide +kernel
theorem dX1_after_97 : decode cX1_after 97 = .ok (.iload_n 2, 1) := by decide +kernel
theorem dX1_after_98 : decode cX1_after 98 = .ok (.iload 6, 2) := by decide +kernel
theorem dX1_after_100 : decode cX1_after 100 = .ok (.iadd, 1) := by decide +kernel
theorem dX1_after_101 : decode cX1_after 101 = .ok (.istore 8, 2) := by decide +kernel
theorem dX1_after_103 : decode cX1_after 103 = .ok (.goto 140, 3) := by decide +kernel
theorem dX1_after_106 : decode cX1_after 106 = .ok (.iload 5, 2) := by decide +kernel
theorem dX1_after_108 : decode cX1_after 108 = .ok (.iconst 3, 1) := by decide +kernel
theorem dX1_after_109 : decode cX1_after 109 = .ok (.if_icmp .ne 11, 3) := by decide +kernel
theorem dX1_after_112 : decode cX1_after 112 = .ok (.iload_n 2, 1) := by decide +kernel
theorem dX1_after_113 : decode cX1_after 113 = .ok (.iload_n 3, 1) := by decide +kernel
theorem dX1_after_114 : decode cX1_after 114 = .ok (.iadd, 1) := by decide +kernel
theorem dX1_after_115 : decode cX1_after 115 = .ok (.istore 8, 2) := by decide +kernel
theorem dX1_after_117 : decode cX1_after 117 = .ok (.goto 126, 3) := by decide +kernel
theorem dX1_after_120 : decode cX1_after 120 = .ok (.iload 5, 2) := by decide +kernel
theorem dX1_after_122 : decode cX1_after 122 = .ok (.iconst 4, 1) := by decide +kernel
theorem dX1_after_123 : decode cX1_after 123 = .ok (.if_icmp .ne 11, 3) := by decide +kernel
theorem dX1_after_126 : decode cX1_after 126 = .ok (.iload_n 2, 1) := by decide +kernel
theorem dX1_after_127 : decode cX1_after 127 = .ok (.iload_n 3, 1) := by decide +kernel
theorem dX1_after_128 : decode cX1_after 128 = .ok (.isub, 1) := by decide +kernel
theorem dX1_after_129 : decode cX1_after 129 = .ok (.istore 8, 2) := by decide +kernel
theorem dX1_after_131 : decode cX1_after 131 = .ok (.goto 112, 3) := by decide +kernel
theorem dX1_after_134 : decode cX1_after 134 = .ok (.iload 5, 2) := by decide +kernel
theorem dX1_after_136 : decode cX1_after 136 = .ok (.iconst 5, 1) := by decide +kernel
theorem dX1_after_137 : decode cX1_after 137 = .ok (.if_icmp .ne 11, 3) := by decide +kernel
theorem dX1_after_140 : decode cX1_after 140 = .ok (.iload_n 2, 1) := by decide +kernel
theorem dX1_after_141 : decode cX1_after 141 = .ok (.iload_n 3, 1) := by decide +kernel
theorem dX1_after_142 : decode cX1_after 142 = .ok (.imul, 1) := by decide +kernel
theorem dX1_after_143 : decode cX1_after 143 = .ok (.istore 8, 2) := by decide +kernel
theorem dX1_after_145 : decode cX1_after 145 = .ok (.goto 98, 3) := by decide +kernel
theorem dX1_after_148 : decode cX1_after 148 = .ok (.iload 5, 2) := by decide +kernel
theorem dX1_after_150 : decode cX1_after 150 = .ok (.bipush 6, 2) := by decide +kernel
theorem dX1_after_152 : decode cX1_after 152 = .ok (.if_icmp .ne 15, 3) := by decide +kernel
theorem dX1_after_155 : decode cX1_after 155 = .ok (.iload_n 3, 1) := by decide +kernel
theorem dX1_after_156 : decode cX1_after 156 = .ok (.ifCond .le 11, 3) := by decide +kernel
theorem dX1_after_159 : decode cX1_after 159 = .ok (.iload_n 2, 1) := by decide +kernel
theorem dX1_after_160 : decode cX1_after 160 = .ok (.iload_n 3, 1) := by decide +kernel
theorem dX1_after_161 : decode cX1_after 161 = .ok (.idiv, 1) := by decide +kernel
theorem dX1_after_162 : decode cX1_after 162 = .ok (.istore 8, 2) := by decide +kernel
theorem dX1_after_164 : decode cX1_after 164 = .ok (.goto 79, 3) := by decide +kernel
theorem dX1_after_167 : decode cX1_after 167 = .ok (.iload 5, 2) := by decide +kernel
theorem dX1_after_169 : decode cX1_after 169 = .ok (.bipush 7, 2) := by decide +kernel
theorem dX1_after_171 : decode cX1_after 171 = .ok (.if_icmp .ne 12, 3) := by decide +kernel
theorem dX1_after_174 : decode cX1_after 174 = .ok (.iload_n 3, 1) := by decide +kernel
theorem dX1_after_175 : decode cX1_after 175 = .ok (.istore 8, 2) := by decide +kernel
theorem dX1_after_177 : decode cX1_after 177 = .ok (.iload_n 2, 1) := by decide +kernel
theorem dX1_after_178 : decode cX1_after 178 = .ok (.istore 9, 2) := by decide +kernel
theorem dX1_after_180 : decode cX1_after 180 = .ok (.goto 63, 3) := by decide +kernel
theorem dX1_after_183 : decode cX1_after 183 = .ok (.iload 5, 2) := by decide +kernel
theorem dX1_after_185 : decode cX1_after 185 = .ok (.bipush 9, 2) := by decide +kernel
theorem dX1_after_187 : decode cX1_after 187 = .ok (.if_icmp .ne 10, 3) := by decide +kernel
theorem dX1_after_190 : decode cX1_after 190 = .ok (.iload 4, 2) := by decide +kernel
theorem dX1_after_192 : decode cX1_after 192 = .ok (.istore 9, 2) := by decide +kernel
theorem dX1_after_194 : decode cX1_after 194 = .ok (.goto 49, 3) := by decide +kernel
theorem dX1_after_197 : decode cX1_after 197 = .ok (.iload 5, 2) := by decide +kernel
theorem dX1_after_199 : decode cX1_after 199 = .ok (.bipush 10, 2) := by decide +kernel
theorem dX1_after_201 : decode cX1_after 201 = .ok (.if_icmp .eq 38, 3) := by decide +kernel
theorem dX1_after_204 : decode cX1_after 204 = .ok (.iload 5, 2) := by decide +kernel
theorem dX1_after_206 : decode cX1_after 206 = .ok (.bipush 11, 2) := by decide +kernel
theorem dX1_after_208 : decode cX1_after 208 = .ok (.if_icmp .ne 8, 3) := by decide +kernel
theorem dX1_after_211 : decode cX1_after 211 = .ok (.iload_n 2, 1) := by decide +kernel
theorem dX1_after_212 : decode cX1_after 212 = .ok (.iload_n 3, 1) := by decide +kernel
theorem dX1_after_213 : decode cX1_after 213 = .ok (.if_icmp .eq 26, 3) := by decide +kernel
theorem dX1_after_216 : decode cX1_after 216 = .ok (.iload 5, 2) := by decide +kernel
theorem dX1_after_218 : decode cX1_after 218 = .ok (.bipush 12, 2) := by decide +kernel
theorem dX1_after_220 : decode cX1_after 220 = .ok (.if_icmp .ne 8, 3) := by decide +kernel
theorem dX1_after_223 : decode cX1_after 223 = .ok (.iload_n 2, 1) := by decide +kernel
theorem dX1_after_224 : decode cX1_after 224 = .ok (.iload_n 3, 1) := by decide +kernel
theorem dX1_after_225 : decode cX1_after 225 = .ok (.if_icmp .lt 14, 3) := by decide +kernel
theorem dX1_after_228 : decode cX1_after 228 = .ok (.iload 5, 2) := by decide +kernel
theorem dX1_after_230 : decode cX1_after 230 = .ok (.bipush 13, 2) := by decide +kernel
theorem dX1_after_232 : decode cX1_after 232 = .ok (.if_icmp .ne 11, 3) := by decide +kernel
theorem dX1_after_235 : decode cX1_after 235 = .ok (.iload_n 2, 1) := by decide +kernel
theorem dX1_after_236 : decode cX1_after 236 = .ok (.ifCond .ne 7, 3) := by decide +kernel
theorem dX1_after_239 : decode cX1_after 239 = .ok (.iload 6, 2) := by decide +kernel
theorem dX1_after_241 : decode cX1_after 241 = .ok (.istore 7, 2) := by decide +kernel
theorem dX1_after_243 : decode cX1_after 243 = .ok (.aload_n 0, 1) := by decide +kernel
theorem dX1_after_244 : decode cX1_after 244 = .ok (.iload 7, 2) := by decide +kernel
theorem dX1_after_246 : decode cX1_after 246 = .ok (.invokevirtual 48, 3) := by decide +kernel
theorem dX1_after_249 : decode cX1_after 249 = .ok (.ifCond .eq 5, 3) := by decide +kernel
theorem dX1_after_252 : decode cX1_after 252 = .ok (.iconst (-1), 1) := by decide +kernel
theorem dX1_after_253 : decode cX1_after 253 = .ok (.ireturn, 1) := by decide +kernel
theorem dX1_after_254 : decode cX1_after 254 = .ok (.iload 7, 2) := by decide +kernel
theorem dX1_after_256 : decode cX1_after 256 = .ok (.sipush 256, 3) := by decide +kernel
theorem dX1_after_259 : decode cX1_after 259 = .ok (.imul, 1) := by decide +kernel
theorem dX1_after_260 : decode cX1_after 260 = .ok (.iload 8, 2) := by decide +kernel
theorem dX1_after_262 : decode cX1_after 262 = .ok (.bipush 15, 2) := by decide +kernel
theorem dX1_after_264 : decode cX1_after 264 = .ok (.iand, 1) := by decide +kernel
theorem dX1_after_265 : decode cX1_after 265 = .ok (.bipush 16, 2) := by decide +kernel
theorem dX1_after_267 : decode cX1_after 267 = .ok (.imul, 1) := by decide +kernel
theorem dX1_after_268 : decode cX1_after 268 = .ok (.iadd, 1) := by decide +kernel
theorem dX1_after_269 : decode cX1_after 269 = .ok (.iload 9, 2) := by decide +kernel
theorem dX1_after_271 : decode cX1_after 271 = .ok (.bipush 15, 2) := by decide +kernel
theorem dX1_after_273 : decode cX1_after 273 = .ok (.iand, 1) := by decide +kernel
theorem dX1_after_274 : decode cX1_after 274 = .ok (.iadd, 1) := by decide +kernel
theorem dX1_after_275 : decode cX1_after 275 = .ok (.ireturn, 1) := by decide +kernel
abbrev cX1_goOnForEver : ByteArray := prog_3_method_12_code
def yX1_goOnForEver : MethodName := ⟨RX1, "goOnForEver", "()V"⟩
theorem dX1_goOnForEver_0 : decode cX1_goOnForEver 0 = .ok (.iconst 0, 1) := by decide +kernel
theorem dX1_goOnForEver_1 : decode cX1_goOnForEver 1 = .ok (.istore_n 1, 1) := by decide +kernel
theorem dX1_goOnForEver_2 : decode cX1_goOnForEver 2 = .ok (.iload_n 1, 1) := by decide +kernel
theorem dX1_goOnForEver_3 : decode cX1_goOnForEver 3 = .ok (.sipush 256, 3) := by decide +kernel
theorem dX1_goOnForEver_6 : decode cX1_goOnForEver 6 = .ok (.if_icmp .ge 21, 3) := by decide +kernel
theorem dX1_goOnForEver_9 : decode cX1_goOnForEver 9 = .ok (.aload_n 0, 1) := by decide +kernel
theorem dX1_goOnForEver_10 : decode cX1_goOnForEver 10 = .ok (.getfield 31, 3) := by decide +kernel
theorem dX1_goOnForEver_13 : decode cX1_goOnForEver 13 = .ok (.iload_n 1, 1) := by decide +kernel
theorem dX1_goOnForEver_14 : decode cX1_goOnForEver 14 = .ok (.aload_n 0, 1) := by decide +kernel
theorem dX1_goOnForEver_15 : decode cX1_goOnForEver 15 = .ok (.getfield 22, 3) := by decide +kernel
theorem dX1_goOnForEver_18 : decode cX1_goOnForEver 18 = .ok (.iload_n 1, 1) := by decide +kernel
theorem dX1_goOnForEver_19 : decode cX1_goOnForEver 19 = .ok (.iaload, 1) := by decide +kernel
theorem dX1_goOnForEver_20 : decode cX1_goOnForEver 20 = .ok (.iastore, 1) := by decide +kernel
theorem dX1_goOnForEver_21 : decode cX1_goOnForEver 21 = .ok (.iinc 1 1, 3) := by decide +kernel
theorem dX1_goOnForEver_24 : decode cX1_goOnForEver 24 = .ok (.goto (-22), 3) := by decide +kernel
theorem dX1_goOnForEver_27 : decode cX1_goOnForEver 27 = .ok (.iconst 1, 1) := by decide +kernel
theorem dX1_goOnForEver_28 : decode cX1_goOnForEver 28 = .ok (.istore_n 1, 1) := by decide +kernel
theorem dX1_goOnForEver_29 : decode cX1_goOnForEver 29 = .ok (.iconst 0, 1) := by decide +kernel
theorem dX1_goOnForEver_30 : decode cX1_goOnForEver 30 = .ok (.istore_n 2, 1) := by decide +kernel
theorem dX1_goOnForEver_31 : decode cX1_goOnForEver 31 = .ok (.iload_n 2, 1) := by decide +kernel
theorem dX1_goOnForEver_32 : decode cX1_goOnForEver 32 = .ok (.sipush 4097, 3) := by decide +kernel
theorem dX1_goOnForEver_35 : decode cX1_goOnForEver 35 = .ok (.if_icmp .ge 58, 3) := by decide +kernel
theorem dX1_goOnForEver_38 : decode cX1_goOnForEver 38 = .ok (.iload_n 1, 1) := by decide +kernel
theorem dX1_goOnForEver_39 : decode cX1_goOnForEver 39 = .ok (.ifCond .eq 54, 3) := by decide +kernel
theorem dX1_goOnForEver_42 : decode cX1_goOnForEver 42 = .ok (.iconst 0, 1) := by decide +kernel
theorem dX1_goOnForEver_43 : decode cX1_goOnForEver 43 = .ok (.istore_n 1, 1) := by decide +kernel
theorem dX1_goOnForEver_44 : decode cX1_goOnForEver 44 = .ok (.iconst 0, 1) := by decide +kernel
theorem dX1_goOnForEver_45 : decode cX1_goOnForEver 45 = .ok (.istore_n 3, 1) := by decide +kernel
theorem dX1_goOnForEver_46 : decode cX1_goOnForEver 46 = .ok (.iload_n 3, 1) := by decide +kernel
theorem dX1_goOnForEver_47 : decode cX1_goOnForEver 47 = .ok (.sipush 256, 3) := by decide +kernel
theorem dX1_goOnForEver_50 : decode cX1_goOnForEver 50 = .ok (.if_icmp .ge 37, 3) := by decide +kernel
theorem dX1_goOnForEver_53 : decode cX1_goOnForEver 53 = .ok (.aload_n 0, 1) := by decide +kernel
theorem dX1_goOnForEver_54 : decode cX1_goOnForEver 54 = .ok (.iload_n 3, 1) := by decide +kernel
theorem dX1_goOnForEver_55 : decode cX1_goOnForEver 55 = .ok (.invokevirtual 72, 3) := by decide +kernel
theorem dX1_goOnForEver_58 : decode cX1_goOnForEver 58 = .ok (.istore 4, 2) := by decide +kernel
theorem dX1_goOnForEver_60 : decode cX1_goOnForEver 60 = .ok (.iload 4, 2) := by decide +kernel
theorem dX1_goOnForEver_62 : decode cX1_goOnForEver 62 = .ok (.aload_n 0, 1) := by decide +kernel
theorem dX1_goOnForEver_63 : decode cX1_goOnForEver 63 = .ok (.getfield 31, 3) := by decide +kernel
theorem dX1_goOnForEver_66 : decode cX1_goOnForEver 66 = .ok (.iload_n 3, 1) := by decide +kernel
theorem dX1_goOnForEver_67 : decode cX1_goOnForEver 67 = .ok (.iaload, 1) := by decide +kernel
theorem dX1_goOnForEver_68 : decode cX1_goOnForEver 68 = .ok (.if_icmp .eq 13, 3) := by decide +kernel
theorem dX1_goOnForEver_71 : decode cX1_goOnForEver 71 = .ok (.aload_n 0, 1) := by decide +kernel
theorem dX1_goOnForEver_72 : decode cX1_goOnForEver 72 = .ok (.getfield 31, 3) := by decide +kernel
theorem dX1_goOnForEver_75 : decode cX1_goOnForEver 75 = .ok (.iload_n 3, 1) := by decide +kernel
theorem dX1_goOnForEver_76 : decode cX1_goOnForEver 76 = .ok (.iload 4, 2) := by decide +kernel
theorem dX1_goOnForEver_78 : decode cX1_goOnForEver 78 = .ok (.iastore, 1) := by decide +kernel
theorem dX1_goOnForEver_79 : decode cX1_goOnForEver 79 = .ok (.iconst 1, 1) := by decide +kernel
theorem dX1_goOnForEver_80 : decode cX1_goOnForEver 80 = .ok (.istore_n 1, 1) := by decide +kernel
theorem dX1_goOnForEver_81 : decode cX1_goOnForEver 81 = .ok (.iinc 3 1, 3) := by decide +kernel
theorem dX1_goOnForEver_84 : decode cX1_goOnForEver 84 = .ok (.goto (-38), 3) := by decide +kernel
theorem dX1_goOnForEver_87 : decode cX1_goOnForEver 87 = .ok (.iinc 2 1, 3) := by decide +kernel
theorem dX1_goOnForEver_90 : decode cX1_goOnForEver 90 = .ok (.goto (-59), 3) := by decide +kernel
theorem dX1_goOnForEver_93 : decode cX1_goOnForEver 93 = .ok (.return_, 1) := by decide +kernel
abbrev cX1_kept : ByteArray := prog_3_method_13_code
def yX1_kept : MethodName := ⟨RX1, "kept", "(I)I"⟩
theorem dX1_kept_0 : decode cX1_kept 0 = .ok (.iconst 0, 1) := by decide +kernel
theorem dX1_kept_1 : decode cX1_kept 1 = .ok (.istore_n 2, 1) := by decide +kernel
theorem dX1_kept_2 : decode cX1_kept 2 = .ok (.iconst 0, 1) := by decide +kernel
theorem dX1_kept_3 : decode cX1_kept 3 = .ok (.istore_n 3, 1) := by decide +kernel
theorem dX1_kept_4 : decode cX1_kept 4 = .ok (.iload_n 3, 1) := by decide +kernel
theorem dX1_kept_5 : decode cX1_kept 5 = .ok (.bipush 16, 2) := by decide +kernel
theorem dX1_kept_7 : decode cX1_kept 7 = .ok (.if_icmp .ge 103, 3) := by decide +kernel
theorem dX1_kept_10 : decode cX1_kept 10 = .ok (.iconst 0, 1) := by decide +kernel
theorem dX1_kept_11 : decode cX1_kept 11 = .ok (.istore 4, 2) := by decide +kernel
theorem dX1_kept_13 : decode cX1_kept 13 = .ok (.iload 4, 2) := by decide +kernel
theorem dX1_kept_15 : decode cX1_kept 15 = .ok (.bipush 16, 2) := by decide +kernel
theorem dX1_kept_17 : decode cX1_kept 17 = .ok (.if_icmp .ge 87, 3) := by decide +kernel
theorem dX1_kept_20 : decode cX1_kept 20 = .ok (.aload_n 0, 1) := by decide +kernel
theorem dX1_kept_21 : decode cX1_kept 21 = .ok (.getfield 31, 3) := by decide +kernel
theorem dX1_kept_24 : decode cX1_kept 24 = .ok (.iload_n 1, 1) := by decide +kernel
theorem dX1_kept_25 : decode cX1_kept 25 = .ok (.iaload, 1) := by decide +kernel
theorem dX1_kept_26 : decode cX1_kept 26 = .ok (.iload_n 3, 1) := by decide +kernel
theorem dX1_kept_27 : decode cX1_kept 27 = .ok (.ishr, 1) := by decide +kernel
theorem dX1_kept_28 : decode cX1_kept 28 = .ok (.iconst 1, 1) := by decide +kernel
theorem dX1_kept_29 : decode cX1_kept 29 = .ok (.iand, 1) := by decide +kernel
theorem dX1_kept_30 : decode cX1_kept 30 = .ok (.iconst 1, 1) := by decide +kernel
theorem dX1_kept_31 : decode cX1_kept 31 = .ok (.if_icmp .ne 67, 3) := by decide +kernel
theorem dX1_kept_34 : decode cX1_kept 34 = .ok (.iload 4, 2) := by decide +kernel
theorem dX1_kept_36 : decode cX1_kept 36 = .ok (.ifCond .eq 17, 3) := by decide +kernel
theorem dX1_kept_39 : decode cX1_kept 39 = .ok (.aload_n 0, 1) := by decide +kernel
theorem dX1_kept_40 : decode cX1_kept 40 = .ok (.getfield 7, 3) := by decide +kernel
theorem dX1_kept_43 : decode cX1_kept 43 = .ok (.iload_n 1, 1) := by decide +kernel
theorem dX1_kept_44 : decode cX1_kept 44 = .ok (.bipush 16, 2) := by decide +kernel
theorem dX1_kept_46 : decode cX1_kept 46 = .ok (.idiv, 1) := by decide +kernel
theorem dX1_kept_47 : decode cX1_kept 47 = .ok (.iaload, 1) := by decide +kernel
theorem dX1_kept_48 : decode cX1_kept 48 = .ok (.bipush 9, 2) := by decide +kernel
theorem dX1_kept_50 : decode cX1_kept 50 = .ok (.if_icmp .ne 48, 3) := by decide +kernel
theorem dX1_kept_53 : decode cX1_kept 53 = .ok (.aload_n 0, 1) := by decide +kernel
theorem dX1_kept_54 : decode cX1_kept 54 = .ok (.iload_n 1, 1) := by decide +kernel
theorem dX1_kept_55 : decode cX1_kept 55 = .ok (.bipush 16, 2) := by decide +kernel
theorem dX1_kept_57 : decode cX1_kept 57 = .ok (.idiv, 1) := by decide +kernel
theorem dX1_kept_58 : decode cX1_kept 58 = .ok (.iload_n 1, 1) := by decide +kernel
theorem dX1_kept_59 : decode cX1_kept 59 = .ok (.bipush 16, 2) := by decide +kernel
theorem dX1_kept_61 : decode cX1_kept 61 = .ok (.irem, 1) := by decide +kernel
theorem dX1_kept_62 : decode cX1_kept 62 = .ok (.iload_n 3, 1) := by decide +kernel
theorem dX1_kept_63 : decode cX1_kept 63 = .ok (.iload 4, 2) := by decide +kernel
theorem dX1_kept_65 : decode cX1_kept 65 = .ok (.invokevirtual 56, 3) := by decide +kernel
theorem dX1_kept_68 : decode cX1_kept 68 = .ok (.istore 5, 2) := by decide +kernel
theorem dX1_kept_70 : decode cX1_kept 70 = .ok (.iload 5, 2) := by decide +kernel
theorem dX1_kept_72 : decode cX1_kept 72 = .ok (.ifCond .lt 26, 3) := by decide +kernel
theorem dX1_kept_75 : decode cX1_kept 75 = .ok (.iload_n 2, 1) := by decide +kernel
theorem dX1_kept_76 : decode cX1_kept 76 = .ok (.aload_n 0, 1) := by decide +kernel
theorem dX1_kept_77 : decode cX1_kept 77 = .ok (.getfield 31, 3) := by decide +kernel
theorem dX1_kept_80 : decode cX1_kept 80 = .ok (.iload 5, 2) := by decide +kernel
theorem dX1_kept_82 : decode cX1_kept 82 = .ok (.bipush 16, 2) := by decide +kernel
theorem dX1_kept_84 : decode cX1_kept 84 = .ok (.idiv, 1) := by decide +kernel
theorem dX1_kept_85 : decode cX1_kept 85 = .ok (.iaload, 1) := by decide +kernel
theorem dX1_kept_86 : decode cX1_kept 86 = .ok (.iload 5, 2) := by decide +kernel
theorem dX1_kept_88 : decode cX1_kept 88 = .ok (.bipush 16, 2) := by decide +kernel
theorem dX1_kept_90 : decode cX1_kept 90 = .ok (.irem, 1) := by decide +kernel
theorem dX1_kept_91 : decode cX1_kept 91 = .ok (.ishr, 1) := by decide +kernel
theorem dX1_kept_92 : decode cX1_kept 92 = .ok (.iconst 1, 1) := by decide +kernel
theorem dX1_kept_93 : decode cX1_kept 93 = .ok (.iand, 1) := by decide +kernel
theorem dX1_kept_94 : decode cX1_kept 94 = .ok (.iload_n 3, 1) := by decide +kernel
theorem dX1_kept_95 : decode cX1_kept 95 = .ok (.ishl, 1) := by decide +kernel
theorem dX1_kept_96 : decode cX1_kept 96 = .ok (.ior, 1) := by decide +kernel
theorem dX1_kept_97 : decode cX1_kept 97 = .ok (.istore_n 2, 1) := by decide +kernel
theorem dX1_kept_98 : decode cX1_kept 98 = .ok (.iinc 4 1, 3) := by decide +kernel
theorem dX1_kept_101 : decode cX1_kept 101 = .ok (.goto (-88), 3) := by decide +kernel
theorem dX1_kept_104 : decode cX1_kept 104 = .ok (.iinc 3 1, 3) := by decide +kernel
theorem dX1_kept_107 : decode cX1_kept 107 = .ok (.goto (-103), 3) := by decide +kernel
theorem dX1_kept_110 : decode cX1_kept 110 = .ok (.iload_n 2, 1) := by decide +kernel
theorem dX1_kept_111 : decode cX1_kept 111 = .ok (.ireturn, 1) := by decide +kernel
abbrev cX1_count : ByteArray := prog_3_method_14_code
def yX1_count : MethodName := ⟨RX1, "count", "(I)I"⟩
theorem dX1_count_0 : decode cX1_count 0 = .ok (.iconst 0, 1) := by decide +kernel
theorem dX1_count_1 : decode cX1_count 1 = .ok (.istore_n 2, 1) := by decide +kernel
theorem dX1_count_2 : decode cX1_count 2 = .ok (.iconst 0, 1) := by decide +kernel
theorem dX1_count_3 : decode cX1_count 3 = .ok (.istore_n 3, 1) := by decide +kernel
theorem dX1_count_4 : decode cX1_count 4 = .ok (.iload_n 3, 1) := by decide +kernel
theorem dX1_count_5 : decode cX1_count 5 = .ok (.bipush 16, 2) := by decide +kernel
theorem dX1_count_7 : decode cX1_count 7 = .ok (.if_icmp .ge 17, 3) := by decide +kernel
theorem dX1_count_10 : decode cX1_count 10 = .ok (.iload_n 2, 1) := by decide +kernel
theorem dX1_count_11 : decode cX1_count 11 = .ok (.iload_n 1, 1) := by decide +kernel
theorem dX1_count_12 : decode cX1_count 12 = .ok (.iload_n 3, 1) := by decide +kernel
theorem dX1_count_13 : decode cX1_count 13 = .ok (.ishr, 1) := by decide +kernel
theorem dX1_count_14 : decode cX1_count 14 = .ok (.iconst 1, 1) := by decide +kernel
theorem dX1_count_15 : decode cX1_count 15 = .ok (.iand, 1) := by decide +kernel
theorem dX1_count_16 : decode cX1_count 16 = .ok (.iadd, 1) := by decide +kernel
theorem dX1_count_17 : decode cX1_count 17 = .ok (.istore_n 2, 1) := by decide +kernel
theorem dX1_count_18 : decode cX1_count 18 = .ok (.iinc 3 1, 3) := by decide +kernel
theorem dX1_count_21 : decode cX1_count 21 = .ok (.goto (-17), 3) := by decide +kernel
theorem dX1_count_24 : decode cX1_count 24 = .ok (.iload_n 2, 1) := by decide +kernel
theorem dX1_count_25 : decode cX1_count 25 = .ok (.ireturn, 1) := by decide +kernel
abbrev cX1_possible : ByteArray := prog_3_method_16_code
def yX1_possible : MethodName := ⟨RX1, "possible", "(III)Z"⟩
theorem dX1_possible_0 : decode cX1_possible 0 = .ok (.aload_n 0, 1) := by decide +kernel
theorem dX1_possible_1 : decode cX1_possible 1 = .ok (.iload_n 1, 1) := by decide +kernel
theorem dX1_possible_2 : decode cX1_possible 2 = .ok (.invokevirtual 48, 3) := by decide +kernel
theorem dX1_possible_5 : decode cX1_possible 5 = .ok (.ifCond .ne 23, 3) := by decide +kernel
theorem dX1_possible_8 : decode cX1_possible 8 = .ok (.iload_n 2, 1) := by decide +kernel
theorem dX1_possible_9 : decode cX1_possible 9 = .ok (.ifCond .lt 19, 3) := by decide +kernel
theorem dX1_possible_12 : decode cX1_possible 12 = .ok (.iload_n 2, 1) := by decide +kernel
theorem dX1_possible_13 : decode cX1_possible 13 = .ok (.bipush 15, 2) := by decide +kernel
theorem dX1_possible_15 : decode cX1_possible 15 = .ok (.if_icmp .gt 13, 3) := by decide +kernel
theorem dX1_possible_18 : decode cX1_possible 18 = .ok (.iload_n 3, 1) := by decide +kernel
theorem dX1_possible_19 : decode cX1_possible 19 = .ok (.ifCond .lt 9, 3) := by decide +kernel
theorem dX1_possible_22 : decode cX1_possible 22 = .ok (.iload_n 3, 1) := by decide +kernel
theorem dX1_possible_23 : decode cX1_possible 23 = .ok (.bipush 15, 2) := by decide +kernel
theorem dX1_possible_25 : decode cX1_possible 25 = .ok (.if_icmp .le 5, 3) := by decide +kernel
theorem dX1_possible_28 : decode cX1_possible 28 = .ok (.iconst 0, 1) := by decide +kernel
theorem dX1_possible_29 : decode cX1_possible 29 = .ok (.ireturn, 1) := by decide +kernel
theorem dX1_possible_30 : decode cX1_possible 30 = .ok (.aload_n 0, 1) := by decide +kernel
theorem dX1_possible_31 : decode cX1_possible 31 = .ok (.invokevirtual 76, 3) := by decide +kernel
theorem dX1_possible_34 : decode cX1_possible 34 = .ok (.aload_n 0, 1) := by decide +kernel
theorem dX1_possible_35 : decode cX1_possible 35 = .ok (.getfield 22, 3) := by decide +kernel
theorem dX1_possible_38 : decode cX1_possible 38 = .ok (.iload_n 1, 1) := by decide +kernel
theorem dX1_possible_39 : decode cX1_possible 39 = .ok (.bipush 16, 2) := by decide +kernel
theorem dX1_possible_41 : decode cX1_possible 41 = .ok (.imul, 1) := by decide +kernel
theorem dX1_possible_42 : decode cX1_possible 42 = .ok (.iload_n 2, 1) := by decide +kernel
theorem dX1_possible_43 : decode cX1_possible 43 = .ok (.iadd, 1) := by decide +kernel
theorem dX1_possible_44 : decode cX1_possible 44 = .ok (.iaload, 1) := by decide +kernel
theorem dX1_possible_45 : decode cX1_possible 45 = .ok (.iload_n 3, 1) := by decide +kernel
theorem dX1_possible_46 : decode cX1_possible 46 = .ok (.ishr, 1) := by decide +kernel
theorem dX1_possible_47 : decode cX1_possible 47 = .ok (.iconst 1, 1) := by decide +kernel
theorem dX1_possible_48 : decode cX1_possible 48 = .ok (.iand, 1) := by decide +kernel
theorem dX1_possible_49 : decode cX1_possible 49 = .ok (.iconst 1, 1) := by decide +kernel
theorem dX1_possible_50 : decode cX1_possible 50 = .ok (.if_icmp .ne 7, 3) := by decide +kernel
theorem dX1_possible_53 : decode cX1_possible 53 = .ok (.iconst 1, 1) := by decide +kernel
theorem dX1_possible_54 : decode cX1_possible 54 = .ok (.goto 4, 3) := by decide +kernel
theorem dX1_possible_57 : decode cX1_possible 57 = .ok (.iconst 0, 1) := by decide +kernel
theorem dX1_possible_58 : decode cX1_possible 58 = .ok (.ireturn, 1) := by decide +kernel
abbrev cX1_values : ByteArray := prog_3_method_17_code
def yX1_values : MethodName := ⟨RX1, "values", "(II)I"⟩
theorem dX1_values_0 : decode cX1_values 0 = .ok (.aload_n 0, 1) := by decide +kernel
theorem dX1_values_1 : decode cX1_values 1 = .ok (.iload_n 1, 1) := by decide +kernel
theorem dX1_values_2 : decode cX1_values 2 = .ok (.invokevirtual 48, 3) := by decide +kernel
theorem dX1_values_5 : decode cX1_values 5 = .ok (.ifCond .eq 6, 3) := by decide +kernel
theorem dX1_values_8 : decode cX1_values 8 = .ok (.bipush (-3), 2) := by decide +kernel
theorem dX1_values_10 : decode cX1_values 10 = .ok (.ireturn, 1) := by decide +kernel
theorem dX1_values_11 : decode cX1_values 11 = .ok (.iload_n 2, 1) := by decide +kernel
theorem dX1_values_12 : decode cX1_values 12 = .ok (.ifCond .lt 8, 3) := by decide +kernel
theorem dX1_values_15 : decode cX1_values 15 = .ok (.iload_n 2, 1) := by decide +kernel
theorem dX1_values_16 : decode cX1_values 16 = .ok (.iconst 1, 1) := by decide +kernel
theorem dX1_values_17 : decode cX1_values 17 = .ok (.if_icmp .le 6, 3) := by decide +kernel
theorem dX1_values_20 : decode cX1_values 20 = .ok (.bipush (-4), 2) := by decide +kernel
theorem dX1_values_22 : decode cX1_values 22 = .ok (.ireturn, 1) := by decide +kernel
theorem dX1_values_23 : decode cX1_values 23 = .ok (.aload_n 0, 1) := by decide +kernel
theorem dX1_values_24 : decode cX1_values 24 = .ok (.invokevirtual 76, 3) := by decide +kernel
theorem dX1_values_27 : decode cX1_values 27 = .ok (.iconst 0, 1) := by decide +kernel
theorem dX1_values_28 : decode cX1_values 28 = .ok (.istore_n 3, 1) := by decide +kernel
theorem dX1_values_29 : decode cX1_values 29 = .ok (.iconst 0, 1) := by decide +kernel
theorem dX1_values_30 : decode cX1_values 30 = .ok (.istore 4, 2) := by decide +kernel
theorem dX1_values_32 : decode cX1_values 32 = .ok (.iconst 0, 1) := by decide +kernel
theorem dX1_values_33 : decode cX1_values 33 = .ok (.istore 5, 2) := by decide +kernel
theorem dX1_values_35 : decode cX1_values 35 = .ok (.iload 5, 2) := by decide +kernel
theorem dX1_values_37 : decode cX1_values 37 = .ok (.bipush 16, 2) := by decide +kernel
theorem dX1_values_39 : decode cX1_values 39 = .ok (.if_icmp .ge 48, 3) := by decide +kernel
theorem dX1_values_42 : decode cX1_values 42 = .ok (.iload 4, 2) := by decide +kernel
theorem dX1_values_44 : decode cX1_values 44 = .ok (.aload_n 0, 1) := by decide +kernel
theorem dX1_values_45 : decode cX1_values 45 = .ok (.getfield 22, 3) := by decide +kernel
theorem dX1_values_48 : decode cX1_values 48 = .ok (.iload_n 1, 1) := by decide +kernel
theorem dX1_values_49 : decode cX1_values 49 = .ok (.bipush 16, 2) := by decide +kernel
theorem dX1_values_51 : decode cX1_values 51 = .ok (.imul, 1) := by decide +kernel
theorem dX1_values_52 : decode cX1_values 52 = .ok (.iload 5, 2) := by decide +kernel
theorem dX1_values_54 : decode cX1_values 54 = .ok (.iadd, 1) := by decide +kernel
theorem dX1_values_55 : decode cX1_values 55 = .ok (.iaload, 1) := by decide +kernel
theorem dX1_values_56 : decode cX1_values 56 = .ok (.ior, 1) := by decide +kernel
theorem dX1_values_57 : decode cX1_values 57 = .ok (.istore 4, 2) := by decide +kernel
theorem dX1_values_59 : decode cX1_values 59 = .ok (.aload_n 0, 1) := by decide +kernel
theorem dX1_values_60 : decode cX1_values 60 = .ok (.getfield 22, 3) := by decide +kernel
theorem dX1_values_63 : decode cX1_values 63 = .ok (.iload_n 1, 1) := by decide +kernel
theorem dX1_values_64 : decode cX1_values 64 = .ok (.bipush 16, 2) := by decide +kernel
theorem dX1_values_66 : decode cX1_values 66 = .ok (.imul, 1) := by decide +kernel
theorem dX1_values_67 : decode cX1_values 67 = .ok (.iload 5, 2) := by decide +kernel
theorem dX1_values_69 : decode cX1_values 69 = .ok (.iadd, 1) := by decide +kernel
theorem dX1_values_70 : decode cX1_values 70 = .ok (.iaload, 1) := by decide +kernel
theorem dX1_values_71 : decode cX1_values 71 = .ok (.ifCond .eq 10, 3) := by decide +kernel
theorem dX1_values_74 : decode cX1_values 74 = .ok (.iload_n 3, 1) := by decide +kernel
theorem dX1_values_75 : decode cX1_values 75 = .ok (.iconst 1, 1) := by decide +kernel
theorem dX1_values_76 : decode cX1_values 76 = .ok (.iload 5, 2) := by decide +kernel
theorem dX1_values_78 : decode cX1_values 78 = .ok (.ishl, 1) := by decide +kernel
theorem dX1_values_79 : decode cX1_values 79 = .ok (.ior, 1) := by decide +kernel
theorem dX1_values_80 : decode cX1_values 80 = .ok (.istore_n 3, 1) := by decide +kernel
theorem dX1_values_81 : decode cX1_values 81 = .ok (.iinc 5 1, 3) := by decide +kernel
theorem dX1_values_84 : decode cX1_values 84 = .ok (.goto (-49), 3) := by decide +kernel
theorem dX1_values_87 : decode cX1_values 87 = .ok (.iload_n 2, 1) := by decide +kernel
theorem dX1_values_88 : decode cX1_values 88 = .ok (.ifCond .ne 7, 3) := by decide +kernel
theorem dX1_values_91 : decode cX1_values 91 = .ok (.iload_n 3, 1) := by decide +kernel
theorem dX1_values_92 : decode cX1_values 92 = .ok (.goto 5, 3) := by decide +kernel
theorem dX1_values_95 : decode cX1_values 95 = .ok (.iload 4, 2) := by decide +kernel
theorem dX1_values_97 : decode cX1_values 97 = .ok (.ireturn, 1) := by decide +kernel
abbrev cX1_traps : ByteArray := prog_3_method_18_code
def yX1_traps : MethodName := ⟨RX1, "traps", "(I)I"⟩
theorem dX1_traps_0 : decode cX1_traps 0 = .ok (.aload_n 0, 1) := by decide +kernel
theorem dX1_traps_1 : decode cX1_traps 1 = .ok (.iload_n 1, 1) := by decide +kernel
theorem dX1_traps_2 : decode cX1_traps 2 = .ok (.invokevirtual 48, 3) := by decide +kernel
theorem dX1_traps_5 : decode cX1_traps 5 = .ok (.ifCond .eq 6, 3) := by decide +kernel
theorem dX1_traps_8 : decode cX1_traps 8 = .ok (.bipush (-3), 2) := by decide +kernel
theorem dX1_traps_10 : decode cX1_traps 10 = .ok (.ireturn, 1) := by decide +kernel
theorem dX1_traps_11 : decode cX1_traps 11 = .ok (.aload_n 0, 1) := by decide +kernel
theorem dX1_traps_12 : decode cX1_traps 12 = .ok (.invokevirtual 76, 3) := by decide +kernel
theorem dX1_traps_15 : decode cX1_traps 15 = .ok (.aload_n 0, 1) := by decide +kernel
theorem dX1_traps_16 : decode cX1_traps 16 = .ok (.getfield 37, 3) := by decide +kernel
theorem dX1_traps_19 : decode cX1_traps 19 = .ok (.iload_n 1, 1) := by decide +kernel
theorem dX1_traps_20 : decode cX1_traps 20 = .ok (.iaload, 1) := by decide +kernel
theorem dX1_traps_21 : decode cX1_traps 21 = .ok (.ireturn, 1) := by decide +kernel
abbrev cX1_safe : ByteArray := prog_3_method_19_code
def yX1_safe : MethodName := ⟨RX1, "safe", "()Z"⟩
theorem dX1_safe_0 : decode cX1_safe 0 = .ok (.aload_n 0, 1) := by decide +kernel
theorem dX1_safe_1 : decode cX1_safe 1 = .ok (.invokevirtual 76, 3) := by decide +kernel
theorem dX1_safe_4 : decode cX1_safe 4 = .ok (.iconst 0, 1) := by decide +kernel
theorem dX1_safe_5 : decode cX1_safe 5 = .ok (.istore_n 1, 1) := by decide +kernel
theorem dX1_safe_6 : decode cX1_safe 6 = .ok (.iload_n 1, 1) := by decide +kernel
theorem dX1_safe_7 : decode cX1_safe 7 = .ok (.aload_n 0, 1) := by decide +kernel
theorem dX1_safe_8 : decode cX1_safe 8 = .ok (.getfield 40, 3) := by decide +kernel
theorem dX1_safe_11 : decode cX1_safe 11 = .ok (.if_icmp .ge 20, 3) := by decide +kernel
theorem dX1_safe_14 : decode cX1_safe 14 = .ok (.aload_n 0, 1) := by decide +kernel
theorem dX1_safe_15 : decode cX1_safe 15 = .ok (.getfield 37, 3) := by decide +kernel
theorem dX1_safe_18 : decode cX1_safe 18 = .ok (.iload_n 1, 1) := by decide +kernel
theorem dX1_safe_19 : decode cX1_safe 19 = .ok (.iaload, 1) := by decide +kernel
theorem dX1_safe_20 : decode cX1_safe 20 = .ok (.ifCond .le 5, 3) := by decide +kernel
theorem dX1_safe_23 : decode cX1_safe 23 = .ok (.iconst 0, 1) := by decide +kernel
theorem dX1_safe_24 : decode cX1_safe 24 = .ok (.ireturn, 1) := by decide +kernel
theorem dX1_safe_25 : decode cX1_safe 25 = .ok (.iinc 1 1, 3) := by decide +kernel
theorem dX1_safe_28 : decode cX1_safe 28 = .ok (.goto (-22), 3) := by decide +kernel
theorem dX1_safe_31 : decode cX1_safe 31 = .ok (.iconst 1, 1) := by decide +kernel
theorem dX1_safe_32 : decode cX1_safe 32 = .ok (.ireturn, 1) := by decide +kernel
abbrev cX1_soonest : ByteArray := prog_3_method_20_code
def yX1_soonest : MethodName := ⟨RX1, "soonest", "(I)I"⟩
theorem dX1_soonest_0 : decode cX1_soonest 0 = .ok (.aload_n 0, 1) := by decide +kernel
theorem dX1_soonest_1 : decode cX1_soonest 1 = .ok (.iload_n 1, 1) := by decide +kernel
theorem dX1_soonest_2 : decode cX1_soonest 2 = .ok (.invokevirtual 48, 3) := by decide +kernel
theorem dX1_soonest_5 : decode cX1_soonest 5 = .ok (.ifCond .eq 6, 3) := by decide +kernel
theorem dX1_soonest_8 : decode cX1_soonest 8 = .ok (.bipush (-3), 2) := by decide +kernel
theorem dX1_soonest_10 : decode cX1_soonest 10 = .ok (.ireturn, 1) := by decide +kernel
theorem dX1_soonest_11 : decode cX1_soonest 11 = .ok (.aload_n 0, 1) := by decide +kernel
theorem dX1_soonest_12 : decode cX1_soonest 12 = .ok (.invokevirtual 76, 3) := by decide +kernel
theorem dX1_soonest_15 : decode cX1_soonest 15 = .ok (.aload_n 0, 1) := by decide +kernel
theorem dX1_soonest_16 : decode cX1_soonest 16 = .ok (.getfield 34, 3) := by decide +kernel
theorem dX1_soonest_19 : decode cX1_soonest 19 = .ok (.iload_n 1, 1) := by decide +kernel
theorem dX1_soonest_20 : decode cX1_soonest 20 = .ok (.iaload, 1) := by decide +kernel
theorem dX1_soonest_21 : decode cX1_soonest 21 = .ok (.ireturn, 1) := by decide +kernel
abbrev cX1_canEnd : ByteArray := prog_3_method_21_code
def yX1_canEnd : MethodName := ⟨RX1, "canEnd", "()Z"⟩
theorem dX1_canEnd_0 : decode cX1_canEnd 0 = .ok (.aload_n 0, 1) := by decide +kernel
theorem dX1_canEnd_1 : decode cX1_canEnd 1 = .ok (.invokevirtual 76, 3) := by decide +kernel
theorem dX1_canEnd_4 : decode cX1_canEnd 4 = .ok (.aload_n 0, 1) := by decide +kernel
theorem dX1_canEnd_5 : decode cX1_canEnd 5 = .ok (.getfield 60, 3) := by decide +kernel
theorem dX1_canEnd_8 : decode cX1_canEnd 8 = .ok (.ireturn, 1) := by decide +kernel
abbrev cX1_canRunForever : ByteArray := prog_3_method_22_code
def yX1_canRunForever : MethodName := ⟨RX1, "canRunForever", "()Z"⟩
theorem dX1_canRunForever_0 : decode cX1_canRunForever 0 = .ok (.aload_n 0, 1) := by decide +kernel
theorem dX1_canRunForever_1 : decode cX1_canRunForever 1 = .ok (.invokevirtual 82, 3) := by decide +kernel
theorem dX1_canRunForever_4 : decode cX1_canRunForever 4 = .ok (.ifCond .le 7, 3) := by decide +kernel
theorem dX1_canRunForever_7 : decode cX1_canRunForever 7 = .ok (.iconst 1, 1) := by decide +kernel
theorem dX1_canRunForever_8 : decode cX1_canRunForever 8 = .ok (.goto 4, 3) := by decide +kernel
theorem dX1_canRunForever_11 : decode cX1_canRunForever 11 = .ok (.iconst 0, 1) := by decide +kernel
theorem dX1_canRunForever_12 : decode cX1_canRunForever 12 = .ok (.ireturn, 1) := by decide +kernel
abbrev cX1_endless : ByteArray := prog_3_method_23_code
def yX1_endless : MethodName := ⟨RX1, "endless", "()I"⟩
theorem dX1_endless_0 : decode cX1_endless 0 = .ok (.aload_n 0, 1) := by decide +kernel
theorem dX1_endless_1 : decode cX1_endless 1 = .ok (.invokevirtual 76, 3) := by decide +kernel
theorem dX1_endless_4 : decode cX1_endless 4 = .ok (.iconst 0, 1) := by decide +kernel
theorem dX1_endless_5 : decode cX1_endless 5 = .ok (.istore_n 1, 1) := by decide +kernel
theorem dX1_endless_6 : decode cX1_endless 6 = .ok (.iconst 0, 1) := by decide +kernel
theorem dX1_endless_7 : decode cX1_endless 7 = .ok (.istore_n 2, 1) := by decide +kernel
theorem dX1_endless_8 : decode cX1_endless 8 = .ok (.iload_n 2, 1) := by decide +kernel
theorem dX1_endless_9 : decode cX1_endless 9 = .ok (.sipush 256, 3) := by decide +kernel
theorem dX1_endless_12 : decode cX1_endless 12 = .ok (.if_icmp .ge 24, 3) := by decide +kernel
theorem dX1_endless_15 : decode cX1_endless 15 = .ok (.aload_n 0, 1) := by decide +kernel
theorem dX1_endless_16 : decode cX1_endless 16 = .ok (.aload_n 0, 1) := by decide +kernel
theorem dX1_endless_17 : decode cX1_endless 17 = .ok (.getfield 31, 3) := by decide +kernel
theorem dX1_endless_20 : decode cX1_endless 20 = .ok (.iload_n 2, 1) := by decide +kernel
theorem dX1_endless_21 : decode cX1_endless 21 = .ok (.iaload, 1) := by decide +kernel
theorem dX1_endless_22 : decode cX1_endless 22 = .ok (.invokevirtual 79, 3) := by decide +kernel
theorem dX1_endless_25 : decode cX1_endless 25 = .ok (.istore_n 3, 1) := by decide +kernel
theorem dX1_endless_26 : decode cX1_endless 26 = .ok (.iload_n 1, 1) := by decide +kernel
theorem dX1_endless_27 : decode cX1_endless 27 = .ok (.iload_n 3, 1) := by decide +kernel
theorem dX1_endless_28 : decode cX1_endless 28 = .ok (.iadd, 1) := by decide +kernel
theorem dX1_endless_29 : decode cX1_endless 29 = .ok (.istore_n 1, 1) := by decide +kernel
theorem dX1_endless_30 : decode cX1_endless 30 = .ok (.iinc 2 1, 3) := by decide +kernel
theorem dX1_endless_33 : decode cX1_endless 33 = .ok (.goto (-25), 3) := by decide +kernel
theorem dX1_endless_36 : decode cX1_endless 36 = .ok (.iload_n 1, 1) := by decide +kernel
theorem dX1_endless_37 : decode cX1_endless 37 = .ok (.ireturn, 1) := by decide +kernel
theorem q29 : (Jvm.Cond.initialized "TrapProverModel") ∈ lw_all := lw_g (lw_at lw_m1 2 rfl) rfl
theorem q221 : (Jvm.Cond.instantiable "TrapProverModel" (13 : Nat)) ∈ lw_all := lw_g (lw_at lw_m1 194 rfl) rfl
theorem q223 : (Jvm.Cond.instanceMethod ({ cls := "TrapProverModel", name := "<init>", desc := "()V" } : Jvm.MethodName)) ∈ lw_all := lw_g (lw_at lw_m1 196 rfl) rfl
theorem q224 : (Jvm.Cond.code ({ cls := "TrapProverModel", name := "<init>", desc := "()V" } : Jvm.MethodName) prog_3_method_1_code (1 : Nat) (Option.none : Option Jvm.ClassFile.FieldType)) ∈ lw_all := lw_g (lw_at lw_m1 197 rfl) rfl
theorem q225 : (Jvm.Cond.methodLink "TrapProverModel" (1 : Nat) ({ cls := "java/lang/Object", name := "<init>", desc := "()V" } : Jvm.MethodName)) ∈ lw_all := lw_g (lw_at lw_m1 198 rfl) rfl
theorem q226 : (Jvm.Cond.fieldLink "TrapProverModel" (40 : Nat) "TrapProverModel" "size" "I") ∈ lw_all := lw_g (lw_at lw_m1 199 rfl) rfl
theorem q227 : (Jvm.Cond.fieldLink "TrapProverModel" (7 : Nat) "TrapProverModel" "ops" "[I") ∈ lw_all := lw_g (lw_at lw_m1 200 rfl) rfl
theorem q228 : (Jvm.Cond.fieldLink "TrapProverModel" (13 : Nat) "TrapProverModel" "cs" "[I") ∈ lw_all := lw_g (lw_at lw_m1 201 rfl) rfl
theorem q229 : (Jvm.Cond.fieldLink "TrapProverModel" (16 : Nat) "TrapProverModel" "lows" "[I") ∈ lw_all := lw_g (lw_at lw_m1 202 rfl) rfl
theorem q230 : (Jvm.Cond.fieldLink "TrapProverModel" (19 : Nat) "TrapProverModel" "highs" "[I") ∈ lw_all := lw_g (lw_at lw_m1 203 rfl) rfl
theorem q231 : (Jvm.Cond.fieldLink "TrapProverModel" (44 : Nat) "TrapProverModel" "known" "Z") ∈ lw_all := lw_g (lw_at lw_m1 204 rfl) rfl
theorem q232 : (Jvm.Cond.fieldLink "TrapProverModel" (22 : Nat) "TrapProverModel" "all" "[I") ∈ lw_all := lw_g (lw_at lw_m1 205 rfl) rfl
theorem q233 : (Jvm.Cond.fieldLink "TrapProverModel" (25 : Nat) "TrapProverModel" "last" "[I") ∈ lw_all := lw_g (lw_at lw_m1 206 rfl) rfl
theorem q234 : (Jvm.Cond.fieldLink "TrapProverModel" (28 : Nat) "TrapProverModel" "found" "[I") ∈ lw_all := lw_g (lw_at lw_m1 207 rfl) rfl
theorem q235 : (Jvm.Cond.fieldLink "TrapProverModel" (31 : Nat) "TrapProverModel" "endless" "[I") ∈ lw_all := lw_g (lw_at lw_m1 208 rfl) rfl
theorem q236 : (Jvm.Cond.fieldLink "TrapProverModel" (34 : Nat) "TrapProverModel" "first" "[I") ∈ lw_all := lw_g (lw_at lw_m1 209 rfl) rfl
theorem q237 : (Jvm.Cond.fieldLink "TrapProverModel" (37 : Nat) "TrapProverModel" "trapped" "[I") ∈ lw_all := lw_g (lw_at lw_m1 210 rfl) rfl
theorem q238 : (Jvm.Cond.fieldLink "TrapProverModel" (60 : Nat) "TrapProverModel" "ends" "Z") ∈ lw_all := lw_g (lw_at lw_m1 211 rfl) rfl
theorem q239 : (Jvm.Cond.lays "TrapProverModel" "TrapProverModel" "size" "I") ∈ lw_all := lw_g (lw_at lw_m1 212 rfl) rfl
theorem q240 : (Jvm.Cond.soleField "TrapProverModel" "size") ∈ lw_all := lw_g (lw_at lw_m1 213 rfl) rfl
theorem q241 : (Jvm.Cond.laysFinal "TrapProverModel" "TrapProverModel" "ops" "[I") ∈ lw_all := lw_g (lw_at lw_m1 214 rfl) rfl
theorem q242 : (Jvm.Cond.soleField "TrapProverModel" "ops") ∈ lw_all := lw_g (lw_at lw_m1 215 rfl) rfl
theorem q243 : (Jvm.Cond.laysFinal "TrapProverModel" "TrapProverModel" "cs" "[I") ∈ lw_all := lw_g (lw_at lw_m1 216 rfl) rfl
theorem q244 : (Jvm.Cond.soleField "TrapProverModel" "cs") ∈ lw_all := lw_g (lw_at lw_m1 217 rfl) rfl
theorem q245 : (Jvm.Cond.laysFinal "TrapProverModel" "TrapProverModel" "lows" "[I") ∈ lw_all := lw_g (lw_at lw_m1 218 rfl) rfl
theorem q246 : (Jvm.Cond.soleField "TrapProverModel" "lows") ∈ lw_all := lw_g (lw_at lw_m1 219 rfl) rfl
theorem q247 : (Jvm.Cond.laysFinal "TrapProverModel" "TrapProverModel" "highs" "[I") ∈ lw_all := lw_g (lw_at lw_m1 220 rfl) rfl
theorem q248 : (Jvm.Cond.soleField "TrapProverModel" "highs") ∈ lw_all := lw_g (lw_at lw_m1 221 rfl) rfl
theorem q249 : (Jvm.Cond.lays "TrapProverModel" "TrapProverModel" "known" "Z") ∈ lw_all := lw_g (lw_at lw_m1 222 rfl) rfl
theorem q250 : (Jvm.Cond.soleField "TrapProverModel" "known") ∈ lw_all := lw_g (lw_at lw_m1 223 rfl) rfl
theorem q251 : (Jvm.Cond.laysFinal "TrapProverModel" "TrapProverModel" "all" "[I") ∈ lw_all := lw_g (lw_at lw_m1 224 rfl) rfl
theorem q252 : (Jvm.Cond.soleField "TrapProverModel" "all") ∈ lw_all := lw_g (lw_at lw_m1 225 rfl) rfl
theorem q253 : (Jvm.Cond.laysFinal "TrapProverModel" "TrapProverModel" "last" "[I") ∈ lw_all := lw_g (lw_at lw_m1 226 rfl) rfl
theorem q254 : (Jvm.Cond.soleField "TrapProverModel" "last") ∈ lw_all := lw_g (lw_at lw_m1 227 rfl) rfl
theorem q255 : (Jvm.Cond.laysFinal "TrapProverModel" "TrapProverModel" "found" "[I") ∈ lw_all := lw_g (lw_at lw_m1 228 rfl) rfl
theorem q256 : (Jvm.Cond.soleField "TrapProverModel" "found") ∈ lw_all := lw_g (lw_at lw_m1 229 rfl) rfl
theorem q257 : (Jvm.Cond.laysFinal "TrapProverModel" "TrapProverModel" "endless" "[I") ∈ lw_all := lw_g (lw_at lw_m1 230 rfl) rfl
theorem q258 : (Jvm.Cond.soleField "TrapProverModel" "endless") ∈ lw_all := lw_g (lw_at lw_m1 231 rfl) rfl
theorem q259 : (Jvm.Cond.laysFinal "TrapProverModel" "TrapProverModel" "first" "[I") ∈ lw_all := lw_g (lw_at lw_m1 232 rfl) rfl
theorem q260 : (Jvm.Cond.soleField "TrapProverModel" "first") ∈ lw_all := lw_g (lw_at lw_m1 233 rfl) rfl
theorem q261 : (Jvm.Cond.laysFinal "TrapProverModel" "TrapProverModel" "trapped" "[I") ∈ lw_all := lw_g (lw_at lw_m1 234 rfl) rfl
theorem q262 : (Jvm.Cond.soleField "TrapProverModel" "trapped") ∈ lw_all := lw_g (lw_at lw_m1 235 rfl) rfl
theorem q263 : (Jvm.Cond.lays "TrapProverModel" "TrapProverModel" "ends" "Z") ∈ lw_all := lw_g (lw_at lw_m1 236 rfl) rfl
theorem q264 : (Jvm.Cond.soleField "TrapProverModel" "ends") ∈ lw_all := lw_g (lw_at lw_m1 237 rfl) rfl
theorem q265 : (Jvm.Cond.superclass "TrapProverModel" "java/lang/Object") ∈ lw_all := lw_g (lw_at lw_m1 238 rfl) rfl
theorem q267 : (Jvm.Cond.instanceMethod ({ cls := "TrapProverModel", name := "emit", desc := "(II)I" } : Jvm.MethodName)) ∈ lw_all := lw_g (lw_at lw_m2 0 rfl) rfl
theorem q268 : (Jvm.Cond.selects "TrapProverModel" ({ cls := "TrapProverModel", name := "emit", desc := "(II)I" } : Jvm.MethodName) ({ cls := "TrapProverModel", name := "emit", desc := "(II)I" } : Jvm.MethodName)) ∈ lw_all := lw_g (lw_at lw_m2 1 rfl) rfl
theorem q269 : (Jvm.Cond.code ({ cls := "TrapProverModel", name := "emit", desc := "(II)I" } : Jvm.MethodName) prog_3_method_2_code (3 : Nat) (Option.some Jvm.ClassFile.FieldType.int)) ∈ lw_all := lw_g (lw_at lw_m2 2 rfl) rfl
theorem q271 : (Jvm.Cond.instanceMethod ({ cls := "TrapProverModel", name := "patch", desc := "(II)I" } : Jvm.MethodName)) ∈ lw_all := lw_g (lw_at lw_m2 4 rfl) rfl
theorem q272 : (Jvm.Cond.selects "TrapProverModel" ({ cls := "TrapProverModel", name := "patch", desc := "(II)I" } : Jvm.MethodName) ({ cls := "TrapProverModel", name := "patch", desc := "(II)I" } : Jvm.MethodName)) ∈ lw_all := lw_g (lw_at lw_m2 5 rfl) rfl
theorem q273 : (Jvm.Cond.code ({ cls := "TrapProverModel", name := "patch", desc := "(II)I" } : Jvm.MethodName) prog_3_method_4_code (4 : Nat) (Option.some Jvm.ClassFile.FieldType.int)) ∈ lw_all := lw_g (lw_at lw_m2 6 rfl) rfl
theorem q274 : (Jvm.Cond.methodLink "TrapProverModel" (48 : Nat) ({ cls := "TrapProverModel", name := "bad", desc := "(I)Z" } : Jvm.MethodName)) ∈ lw_all := lw_g (lw_at lw_m2 7 rfl) rfl
theorem q275 : (Jvm.Cond.privateMethod ({ cls := "TrapProverModel", name := "bad", desc := "(I)Z" } : Jvm.MethodName)) ∈ lw_tbl := lw_at lw_m2 8 rfl
theorem q276 : (Jvm.Cond.instanceMethod ({ cls := "TrapProverModel", name := "bad", desc := "(I)Z" } : Jvm.MethodName)) ∈ lw_all := lw_g (lw_at lw_m2 9 rfl) rfl
theorem q277 : (Jvm.Cond.code ({ cls := "TrapProverModel", name := "bad", desc := "(I)Z" } : Jvm.MethodName) prog_3_method_3_code (2 : Nat) (Option.some Jvm.ClassFile.FieldType.boolean)) ∈ lw_all := lw_g (lw_at lw_m2 10 rfl) rfl
theorem q279 : (Jvm.Cond.instanceMethod ({ cls := "TrapProverModel", name := "begin", desc := "(III)I" } : Jvm.MethodName)) ∈ lw_all := lw_g (lw_at lw_m2 12 rfl) rfl
theorem q280 : (Jvm.Cond.selects "TrapProverModel" ({ cls := "TrapProverModel", name := "begin", desc := "(III)I" } : Jvm.MethodName) ({ cls := "TrapProverModel", name := "begin", desc := "(III)I" } : Jvm.MethodName)) ∈ lw_all := lw_g (lw_at lw_m2 13 rfl) rfl
theorem q281 : (Jvm.Cond.code ({ cls := "TrapProverModel", name := "begin", desc := "(III)I" } : Jvm.MethodName) prog_3_method_5_code (4 : Nat) (Option.some Jvm.ClassFile.FieldType.int)) ∈ lw_all := lw_g (lw_at lw_m2 14 rfl) rfl
theorem q283 : (Jvm.Cond.instanceMethod ({ cls := "TrapProverModel", name := "clear", desc := "()V" } : Jvm.MethodName)) ∈ lw_all := lw_g (lw_at lw_m2 16 rfl) rfl
theorem q284 : (Jvm.Cond.selects "TrapProverModel" ({ cls := "TrapProverModel", name := "clear", desc := "()V" } : Jvm.MethodName) ({ cls := "TrapProverModel", name := "clear", desc := "()V" } : Jvm.MethodName)) ∈ lw_all := lw_g (lw_at lw_m2 17 rfl) rfl
theorem q285 : (Jvm.Cond.code ({ cls := "TrapProverModel", name := "clear", desc := "()V" } : Jvm.MethodName) prog_3_method_6_code (1 : Nat) (Option.none : Option Jvm.ClassFile.FieldType)) ∈ lw_all := lw_g (lw_at lw_m2 18 rfl) rfl
theorem q287 : (Jvm.Cond.instanceMethod ({ cls := "TrapProverModel", name := "states", desc := "(I)I" } : Jvm.MethodName)) ∈ lw_all := lw_g (lw_at lw_m2 20 rfl) rfl
theorem q288 : (Jvm.Cond.selects "TrapProverModel" ({ cls := "TrapProverModel", name := "states", desc := "(I)I" } : Jvm.MethodName) ({ cls := "TrapProverModel", name := "states", desc := "(I)I" } : Jvm.MethodName)) ∈ lw_all := lw_g (lw_at lw_m2 21 rfl) rfl
theorem q289 : (Jvm.Cond.code ({ cls := "TrapProverModel", name := "states", desc := "(I)I" } : Jvm.MethodName) prog_3_method_15_code (5 : Nat) (Option.some Jvm.ClassFile.FieldType.int)) ∈ lw_all := lw_g (lw_at lw_m2 22 rfl) rfl
theorem q290 : (Jvm.Cond.methodLink "TrapProverModel" (76 : Nat) ({ cls := "TrapProverModel", name := "workOut", desc := "()V" } : Jvm.MethodName)) ∈ lw_all := lw_g (lw_at lw_m2 23 rfl) rfl
theorem q291 : (Jvm.Cond.privateMethod ({ cls := "TrapProverModel", name := "workOut", desc := "()V" } : Jvm.MethodName)) ∈ lw_tbl := lw_at lw_m2 24 rfl
theorem q292 : (Jvm.Cond.instanceMethod ({ cls := "TrapProverModel", name := "workOut", desc := "()V" } : Jvm.MethodName)) ∈ lw_all := lw_g (lw_at lw_m2 25 rfl) rfl
theorem q293 : (Jvm.Cond.code ({ cls := "TrapProverModel", name := "workOut", desc := "()V" } : Jvm.MethodName) prog_3_method_11_code (3 : Nat) (Option.none : Option Jvm.ClassFile.FieldType)) ∈ lw_all := lw_g (lw_at lw_m2 26 rfl) rfl
theorem q294 : (Jvm.Cond.methodLink "TrapProverModel" (63 : Nat) ({ cls := "TrapProverModel", name := "take", desc := "(I)Z" } : Jvm.MethodName)) ∈ lw_all := lw_g (lw_at lw_m2 27 rfl) rfl
theorem q295 : (Jvm.Cond.privateMethod ({ cls := "TrapProverModel", name := "take", desc := "(I)Z" } : Jvm.MethodName)) ∈ lw_tbl := lw_at lw_m2 28 rfl
theorem q296 : (Jvm.Cond.instanceMethod ({ cls := "TrapProverModel", name := "take", desc := "(I)Z" } : Jvm.MethodName)) ∈ lw_all := lw_g (lw_at lw_m2 29 rfl) rfl
theorem q297 : (Jvm.Cond.code ({ cls := "TrapProverModel", name := "take", desc := "(I)Z" } : Jvm.MethodName) prog_3_method_10_code (4 : Nat) (Option.some Jvm.ClassFile.FieldType.boolean)) ∈ lw_all := lw_g (lw_at lw_m2 30 rfl) rfl
theorem q298 : (Jvm.Cond.methodLink "TrapProverModel" (66 : Nat) ({ cls := "TrapProverModel", name := "round", desc := "()V" } : Jvm.MethodName)) ∈ lw_all := lw_g (lw_at lw_m2 31 rfl) rfl
theorem q299 : (Jvm.Cond.privateMethod ({ cls := "TrapProverModel", name := "round", desc := "()V" } : Jvm.MethodName)) ∈ lw_tbl := lw_at lw_m2 32 rfl
theorem q300 : (Jvm.Cond.instanceMethod ({ cls := "TrapProverModel", name := "round", desc := "()V" } : Jvm.MethodName)) ∈ lw_all := lw_g (lw_at lw_m2 33 rfl) rfl
theorem q301 : (Jvm.Cond.code ({ cls := "TrapProverModel", name := "round", desc := "()V" } : Jvm.MethodName) prog_3_method_8_code (3 : Nat) (Option.none : Option Jvm.ClassFile.FieldType)) ∈ lw_all := lw_g (lw_at lw_m2 34 rfl) rfl
theorem q302 : (Jvm.Cond.methodLink "TrapProverModel" (52 : Nat) ({ cls := "TrapProverModel", name := "goOn", desc := "(III)V" } : Jvm.MethodName)) ∈ lw_all := lw_g (lw_at lw_m2 35 rfl) rfl
theorem q303 : (Jvm.Cond.privateMethod ({ cls := "TrapProverModel", name := "goOn", desc := "(III)V" } : Jvm.MethodName)) ∈ lw_tbl := lw_at lw_m2 36 rfl
theorem q304 : (Jvm.Cond.instanceMethod ({ cls := "TrapProverModel", name := "goOn", desc := "(III)V" } : Jvm.MethodName)) ∈ lw_all := lw_g (lw_at lw_m2 37 rfl) rfl
theorem q305 : (Jvm.Cond.code ({ cls := "TrapProverModel", name := "goOn", desc := "(III)V" } : Jvm.MethodName) prog_3_method_9_code (7 : Nat) (Option.none : Option Jvm.ClassFile.FieldType)) ∈ lw_all := lw_g (lw_at lw_m2 38 rfl) rfl
theorem q306 : (Jvm.Cond.methodLink "TrapProverModel" (56 : Nat) ({ cls := "TrapProverModel", name := "after", desc := "(IIII)I" } : Jvm.MethodName)) ∈ lw_all := lw_g (lw_at lw_m2 39 rfl) rfl
theorem q307 : (Jvm.Cond.privateMethod ({ cls := "TrapProverModel", name := "after", desc := "(IIII)I" } : Jvm.MethodName)) ∈ lw_tbl := lw_at lw_m2 40 rfl
theorem q308 : (Jvm.Cond.instanceMethod ({ cls := "TrapProverModel", name := "after", desc := "(IIII)I" } : Jvm.MethodName)) ∈ lw_all := lw_g (lw_at lw_m2 41 rfl) rfl
theorem q309 : (Jvm.Cond.code ({ cls := "TrapProverModel", name := "after", desc := "(IIII)I" } : Jvm.MethodName) prog_3_method_7_code (10 : Nat) (Option.some Jvm.ClassFile.FieldType.int)) ∈ lw_all := lw_g (lw_at lw_m2 42 rfl) rfl
theorem q310 : (Jvm.Cond.methodLink "TrapProverModel" (69 : Nat) ({ cls := "TrapProverModel", name := "goOnForEver", desc := "()V" } : Jvm.MethodName)) ∈ lw_all := lw_g (lw_at lw_m2 43 rfl) rfl
theorem q311 : (Jvm.Cond.privateMethod ({ cls := "TrapProverModel", name := "goOnForEver", desc := "()V" } : Jvm.MethodName)) ∈ lw_tbl := lw_at lw_m2 44 rfl
theorem q312 : (Jvm.Cond.instanceMethod ({ cls := "TrapProverModel", name := "goOnForEver", desc := "()V" } : Jvm.MethodName)) ∈ lw_all := lw_g (lw_at lw_m2 45 rfl) rfl
theorem q313 : (Jvm.Cond.code ({ cls := "TrapProverModel", name := "goOnForEver", desc := "()V" } : Jvm.MethodName) prog_3_method_12_code (5 : Nat) (Option.none : Option Jvm.ClassFile.FieldType)) ∈ lw_all := lw_g (lw_at lw_m2 46 rfl) rfl
theorem q314 : (Jvm.Cond.methodLink "TrapProverModel" (72 : Nat) ({ cls := "TrapProverModel", name := "kept", desc := "(I)I" } : Jvm.MethodName)) ∈ lw_all := lw_g (lw_at lw_m2 47 rfl) rfl
theorem q315 : (Jvm.Cond.privateMethod ({ cls := "TrapProverModel", name := "kept", desc := "(I)I" } : Jvm.MethodName)) ∈ lw_tbl := lw_at lw_m2 48 rfl
theorem q316 : (Jvm.Cond.instanceMethod ({ cls := "TrapProverModel", name := "kept", desc := "(I)I" } : Jvm.MethodName)) ∈ lw_all := lw_g (lw_at lw_m2 49 rfl) rfl
theorem q317 : (Jvm.Cond.code ({ cls := "TrapProverModel", name := "kept", desc := "(I)I" } : Jvm.MethodName) prog_3_method_13_code (6 : Nat) (Option.some Jvm.ClassFile.FieldType.int)) ∈ lw_all := lw_g (lw_at lw_m2 50 rfl) rfl
theorem q318 : (Jvm.Cond.methodLink "TrapProverModel" (79 : Nat) ({ cls := "TrapProverModel", name := "count", desc := "(I)I" } : Jvm.MethodName)) ∈ lw_all := lw_g (lw_at lw_m2 51 rfl) rfl
theorem q319 : (Jvm.Cond.privateMethod ({ cls := "TrapProverModel", name := "count", desc := "(I)I" } : Jvm.MethodName)) ∈ lw_tbl := lw_at lw_m2 52 rfl
theorem q320 : (Jvm.Cond.instanceMethod ({ cls := "TrapProverModel", name := "count", desc := "(I)I" } : Jvm.MethodName)) ∈ lw_all := lw_g (lw_at lw_m2 53 rfl) rfl
theorem q321 : (Jvm.Cond.code ({ cls := "TrapProverModel", name := "count", desc := "(I)I" } : Jvm.MethodName) prog_3_method_14_code (4 : Nat) (Option.some Jvm.ClassFile.FieldType.int)) ∈ lw_all := lw_g (lw_at lw_m2 54 rfl) rfl
theorem q323 : (Jvm.Cond.instanceMethod ({ cls := "TrapProverModel", name := "possible", desc := "(III)Z" } : Jvm.MethodName)) ∈ lw_all := lw_g (lw_at lw_m2 56 rfl) rfl
theorem q324 : (Jvm.Cond.selects "TrapProverModel" ({ cls := "TrapProverModel", name := "possible", desc := "(III)Z" } : Jvm.MethodName) ({ cls := "TrapProverModel", name := "possible", desc := "(III)Z" } : Jvm.MethodName)) ∈ lw_all := lw_g (lw_at lw_m2 57 rfl) rfl
theorem q325 : (Jvm.Cond.code ({ cls := "TrapProverModel", name := "possible", desc := "(III)Z" } : Jvm.MethodName) prog_3_method_16_code (4 : Nat) (Option.some Jvm.ClassFile.FieldType.boolean)) ∈ lw_all := lw_g (lw_at lw_m2 58 rfl) rfl
theorem q327 : (Jvm.Cond.instanceMethod ({ cls := "TrapProverModel", name := "values", desc := "(II)I" } : Jvm.MethodName)) ∈ lw_all := lw_g (lw_at lw_m2 60 rfl) rfl
theorem q328 : (Jvm.Cond.selects "TrapProverModel" ({ cls := "TrapProverModel", name := "values", desc := "(II)I" } : Jvm.MethodName) ({ cls := "TrapProverModel", name := "values", desc := "(II)I" } : Jvm.MethodName)) ∈ lw_all := lw_g (lw_at lw_m2 61 rfl) rfl
theorem q329 : (Jvm.Cond.code ({ cls := "TrapProverModel", name := "values", desc := "(II)I" } : Jvm.MethodName) prog_3_method_17_code (6 : Nat) (Option.some Jvm.ClassFile.FieldType.int)) ∈ lw_all := lw_g (lw_at lw_m2 62 rfl) rfl
theorem q331 : (Jvm.Cond.instanceMethod ({ cls := "TrapProverModel", name := "traps", desc := "(I)I" } : Jvm.MethodName)) ∈ lw_all := lw_g (lw_at lw_m2 64 rfl) rfl
theorem q332 : (Jvm.Cond.selects "TrapProverModel" ({ cls := "TrapProverModel", name := "traps", desc := "(I)I" } : Jvm.MethodName) ({ cls := "TrapProverModel", name := "traps", desc := "(I)I" } : Jvm.MethodName)) ∈ lw_all := lw_g (lw_at lw_m2 65 rfl) rfl
theorem q333 : (Jvm.Cond.code ({ cls := "TrapProverModel", name := "traps", desc := "(I)I" } : Jvm.MethodName) prog_3_method_18_code (2 : Nat) (Option.some Jvm.ClassFile.FieldType.int)) ∈ lw_all := lw_g (lw_at lw_m2 66 rfl) rfl
theorem q335 : (Jvm.Cond.instanceMethod ({ cls := "TrapProverModel", name := "safe", desc := "()Z" } : Jvm.MethodName)) ∈ lw_all := lw_g (lw_at lw_m2 68 rfl) rfl
theorem q336 : (Jvm.Cond.selects "TrapProverModel" ({ cls := "TrapProverModel", name := "safe", desc := "()Z" } : Jvm.MethodName) ({ cls := "TrapProverModel", name := "safe", desc := "()Z" } : Jvm.MethodName)) ∈ lw_all := lw_g (lw_at lw_m2 69 rfl) rfl
theorem q337 : (Jvm.Cond.code ({ cls := "TrapProverModel", name := "safe", desc := "()Z" } : Jvm.MethodName) prog_3_method_19_code (2 : Nat) (Option.some Jvm.ClassFile.FieldType.boolean)) ∈ lw_all := lw_g (lw_at lw_m2 70 rfl) rfl
theorem q339 : (Jvm.Cond.instanceMethod ({ cls := "TrapProverModel", name := "soonest", desc := "(I)I" } : Jvm.MethodName)) ∈ lw_all := lw_g (lw_at lw_m2 72 rfl) rfl
theorem q340 : (Jvm.Cond.selects "TrapProverModel" ({ cls := "TrapProverModel", name := "soonest", desc := "(I)I" } : Jvm.MethodName) ({ cls := "TrapProverModel", name := "soonest", desc := "(I)I" } : Jvm.MethodName)) ∈ lw_all := lw_g (lw_at lw_m2 73 rfl) rfl
theorem q341 : (Jvm.Cond.code ({ cls := "TrapProverModel", name := "soonest", desc := "(I)I" } : Jvm.MethodName) prog_3_method_20_code (2 : Nat) (Option.some Jvm.ClassFile.FieldType.int)) ∈ lw_all := lw_g (lw_at lw_m2 74 rfl) rfl
theorem q343 : (Jvm.Cond.instanceMethod ({ cls := "TrapProverModel", name := "canEnd", desc := "()Z" } : Jvm.MethodName)) ∈ lw_all := lw_g (lw_at lw_m2 76 rfl) rfl
theorem q344 : (Jvm.Cond.selects "TrapProverModel" ({ cls := "TrapProverModel", name := "canEnd", desc := "()Z" } : Jvm.MethodName) ({ cls := "TrapProverModel", name := "canEnd", desc := "()Z" } : Jvm.MethodName)) ∈ lw_all := lw_g (lw_at lw_m2 77 rfl) rfl
theorem q345 : (Jvm.Cond.code ({ cls := "TrapProverModel", name := "canEnd", desc := "()Z" } : Jvm.MethodName) prog_3_method_21_code (1 : Nat) (Option.some Jvm.ClassFile.FieldType.boolean)) ∈ lw_all := lw_g (lw_at lw_m2 78 rfl) rfl
theorem q347 : (Jvm.Cond.instanceMethod ({ cls := "TrapProverModel", name := "canRunForever", desc := "()Z" } : Jvm.MethodName)) ∈ lw_all := lw_g (lw_at lw_m2 80 rfl) rfl
theorem q348 : (Jvm.Cond.selects "TrapProverModel" ({ cls := "TrapProverModel", name := "canRunForever", desc := "()Z" } : Jvm.MethodName) ({ cls := "TrapProverModel", name := "canRunForever", desc := "()Z" } : Jvm.MethodName)) ∈ lw_all := lw_g (lw_at lw_m2 81 rfl) rfl
theorem q349 : (Jvm.Cond.code ({ cls := "TrapProverModel", name := "canRunForever", desc := "()Z" } : Jvm.MethodName) prog_3_method_22_code (1 : Nat) (Option.some Jvm.ClassFile.FieldType.boolean)) ∈ lw_all := lw_g (lw_at lw_m2 82 rfl) rfl
theorem q350 : (Jvm.Cond.methodLink "TrapProverModel" (82 : Nat) ({ cls := "TrapProverModel", name := "endless", desc := "()I" } : Jvm.MethodName)) ∈ lw_all := lw_g (lw_at lw_m2 83 rfl) rfl
theorem q351 : (Jvm.Cond.instanceMethod ({ cls := "TrapProverModel", name := "endless", desc := "()I" } : Jvm.MethodName)) ∈ lw_all := lw_g (lw_at lw_m2 84 rfl) rfl
theorem q352 : (Jvm.Cond.selects "TrapProverModel" ({ cls := "TrapProverModel", name := "endless", desc := "()I" } : Jvm.MethodName) ({ cls := "TrapProverModel", name := "endless", desc := "()I" } : Jvm.MethodName)) ∈ lw_all := lw_g (lw_at lw_m2 85 rfl) rfl
theorem q353 : (Jvm.Cond.code ({ cls := "TrapProverModel", name := "endless", desc := "()I" } : Jvm.MethodName) prog_3_method_23_code (4 : Nat) (Option.some Jvm.ClassFile.FieldType.int)) ∈ lw_all := lw_g (lw_at lw_m2 86 rfl) rfl
theorem in_X1 : ∀ w ∈ wsX10, w ∈ lw_all := lw_in wsX10 [239, 241, 243, 245, 247, 249, 251, 253, 255, 257, 259, 261, 263] (by decide +kernel) (by decide +kernel)
end
section
set_option maxRecDepth 100000
/-! java/lang/Object -/
set_option maxRecDepth 100000
def RJ0 : String := "java/lang/Object"
abbrev cJ0_init : ByteArray := object_method_1_code
def yJ0_init : MethodName := ⟨RJ0, "<init>", "()V"⟩
theorem dJ0_init_0 : decode cJ0_init 0 = .ok (.return_, 1) := by decide +kernel
theorem q36 : (Jvm.Cond.instanceMethod ({ cls := "java/lang/Object", name := "<init>", desc := "()V" } : Jvm.MethodName)) ∈ lw_all := lw_g (lw_at lw_m1 9 rfl) rfl
theorem q37 : (Jvm.Cond.code ({ cls := "java/lang/Object", name := "<init>", desc := "()V" } : Jvm.MethodName) object_method_1_code (1 : Nat) (Option.none : Option Jvm.ClassFile.FieldType)) ∈ lw_all := lw_g (lw_at lw_m1 10 rfl) rfl

theorem q87 : (Jvm.Cond.arrayClass Jvm.ClassFile.FieldType.int) ∈ lw_all := lw_g (lw_at lw_m1 60 rfl) rfl
set_option maxRecDepth 100000

theorem q27 : (Jvm.Cond.initialized "TrapProverLaw") ∈ lw_all := lw_g (lw_at lw_m1 0 rfl) rfl
set_option maxRecDepth 100000
theorem q30 : (Jvm.Cond.classLink "TrapProverLaw" (7 : Nat) "TrapProver") ∈ lw_all := lw_g (lw_at lw_m1 3 rfl) rfl
theorem q32 : (Jvm.Cond.methodLink "TrapProverLaw" (9 : Nat) ({ cls := "TrapProver", name := "<init>", desc := "()V" } : Jvm.MethodName)) ∈ lw_all := lw_g (lw_at lw_m1 5 rfl) rfl
theorem q88 : (Jvm.Cond.methodLink "TrapProverLaw" (13 : Nat) ({ cls := "TrapProver", name := "emit", desc := "(II)I" } : Jvm.MethodName)) ∈ lw_all := lw_g (lw_at lw_m1 61 rfl) rfl
theorem q92 : (Jvm.Cond.methodLink "TrapProverLaw" (18 : Nat) ({ cls := "TrapProver", name := "patch", desc := "(II)I" } : Jvm.MethodName)) ∈ lw_all := lw_g (lw_at lw_m1 65 rfl) rfl
theorem q100 : (Jvm.Cond.methodLink "TrapProverLaw" (22 : Nat) ({ cls := "TrapProver", name := "begin", desc := "(III)I" } : Jvm.MethodName)) ∈ lw_all := lw_g (lw_at lw_m1 73 rfl) rfl
theorem q104 : (Jvm.Cond.methodLink "TrapProverLaw" (27 : Nat) ({ cls := "TrapProver", name := "clear", desc := "()V" } : Jvm.MethodName)) ∈ lw_all := lw_g (lw_at lw_m1 77 rfl) rfl
theorem q108 : (Jvm.Cond.methodLink "TrapProverLaw" (31 : Nat) ({ cls := "TrapProver", name := "states", desc := "(I)I" } : Jvm.MethodName)) ∈ lw_all := lw_g (lw_at lw_m1 81 rfl) rfl
theorem q183 : (Jvm.Cond.methodLink "TrapProverLaw" (36 : Nat) ({ cls := "TrapProver", name := "possible", desc := "(III)Z" } : Jvm.MethodName)) ∈ lw_all := lw_g (lw_at lw_m1 156 rfl) rfl
theorem q187 : (Jvm.Cond.methodLink "TrapProverLaw" (41 : Nat) ({ cls := "TrapProver", name := "values", desc := "(II)I" } : Jvm.MethodName)) ∈ lw_all := lw_g (lw_at lw_m1 160 rfl) rfl
theorem q191 : (Jvm.Cond.methodLink "TrapProverLaw" (45 : Nat) ({ cls := "TrapProver", name := "traps", desc := "(I)I" } : Jvm.MethodName)) ∈ lw_all := lw_g (lw_at lw_m1 164 rfl) rfl
theorem q199 : (Jvm.Cond.methodLink "TrapProverLaw" (49 : Nat) ({ cls := "TrapProver", name := "safe", desc := "()Z" } : Jvm.MethodName)) ∈ lw_all := lw_g (lw_at lw_m1 172 rfl) rfl
theorem q203 : (Jvm.Cond.methodLink "TrapProverLaw" (54 : Nat) ({ cls := "TrapProver", name := "soonest", desc := "(I)I" } : Jvm.MethodName)) ∈ lw_all := lw_g (lw_at lw_m1 176 rfl) rfl
theorem q207 : (Jvm.Cond.methodLink "TrapProverLaw" (58 : Nat) ({ cls := "TrapProver", name := "canEnd", desc := "()Z" } : Jvm.MethodName)) ∈ lw_all := lw_g (lw_at lw_m1 180 rfl) rfl
theorem q211 : (Jvm.Cond.methodLink "TrapProverLaw" (62 : Nat) ({ cls := "TrapProver", name := "canRunForever", desc := "()Z" } : Jvm.MethodName)) ∈ lw_all := lw_g (lw_at lw_m1 184 rfl) rfl
theorem q219 : (Jvm.Cond.methodLink "TrapProverLaw" (66 : Nat) ({ cls := "TrapProver", name := "endless", desc := "()I" } : Jvm.MethodName)) ∈ lw_all := lw_g (lw_at lw_m1 192 rfl) rfl
theorem q220 : (Jvm.Cond.classLink "TrapProverLaw" (10 : Nat) "TrapProverModel") ∈ lw_all := lw_g (lw_at lw_m1 193 rfl) rfl
theorem q222 : (Jvm.Cond.methodLink "TrapProverLaw" (12 : Nat) ({ cls := "TrapProverModel", name := "<init>", desc := "()V" } : Jvm.MethodName)) ∈ lw_all := lw_g (lw_at lw_m1 195 rfl) rfl
theorem q266 : (Jvm.Cond.methodLink "TrapProverLaw" (17 : Nat) ({ cls := "TrapProverModel", name := "emit", desc := "(II)I" } : Jvm.MethodName)) ∈ lw_all := lw_g (lw_at lw_m1 239 rfl) rfl
theorem q270 : (Jvm.Cond.methodLink "TrapProverLaw" (21 : Nat) ({ cls := "TrapProverModel", name := "patch", desc := "(II)I" } : Jvm.MethodName)) ∈ lw_all := lw_g (lw_at lw_m2 3 rfl) rfl
theorem q278 : (Jvm.Cond.methodLink "TrapProverLaw" (26 : Nat) ({ cls := "TrapProverModel", name := "begin", desc := "(III)I" } : Jvm.MethodName)) ∈ lw_all := lw_g (lw_at lw_m2 11 rfl) rfl
theorem q282 : (Jvm.Cond.methodLink "TrapProverLaw" (30 : Nat) ({ cls := "TrapProverModel", name := "clear", desc := "()V" } : Jvm.MethodName)) ∈ lw_all := lw_g (lw_at lw_m2 15 rfl) rfl
theorem q286 : (Jvm.Cond.methodLink "TrapProverLaw" (35 : Nat) ({ cls := "TrapProverModel", name := "states", desc := "(I)I" } : Jvm.MethodName)) ∈ lw_all := lw_g (lw_at lw_m2 19 rfl) rfl
theorem q322 : (Jvm.Cond.methodLink "TrapProverLaw" (40 : Nat) ({ cls := "TrapProverModel", name := "possible", desc := "(III)Z" } : Jvm.MethodName)) ∈ lw_all := lw_g (lw_at lw_m2 55 rfl) rfl
theorem q326 : (Jvm.Cond.methodLink "TrapProverLaw" (44 : Nat) ({ cls := "TrapProverModel", name := "values", desc := "(II)I" } : Jvm.MethodName)) ∈ lw_all := lw_g (lw_at lw_m2 59 rfl) rfl
theorem q330 : (Jvm.Cond.methodLink "TrapProverLaw" (48 : Nat) ({ cls := "TrapProverModel", name := "traps", desc := "(I)I" } : Jvm.MethodName)) ∈ lw_all := lw_g (lw_at lw_m2 63 rfl) rfl
theorem q334 : (Jvm.Cond.methodLink "TrapProverLaw" (53 : Nat) ({ cls := "TrapProverModel", name := "safe", desc := "()Z" } : Jvm.MethodName)) ∈ lw_all := lw_g (lw_at lw_m2 67 rfl) rfl
theorem q338 : (Jvm.Cond.methodLink "TrapProverLaw" (57 : Nat) ({ cls := "TrapProverModel", name := "soonest", desc := "(I)I" } : Jvm.MethodName)) ∈ lw_all := lw_g (lw_at lw_m2 71 rfl) rfl
theorem q342 : (Jvm.Cond.methodLink "TrapProverLaw" (61 : Nat) ({ cls := "TrapProverModel", name := "canEnd", desc := "()Z" } : Jvm.MethodName)) ∈ lw_all := lw_g (lw_at lw_m2 75 rfl) rfl
theorem q346 : (Jvm.Cond.methodLink "TrapProverLaw" (65 : Nat) ({ cls := "TrapProverModel", name := "canRunForever", desc := "()Z" } : Jvm.MethodName)) ∈ lw_all := lw_g (lw_at lw_m2 79 rfl) rfl
theorem q354 : (Jvm.Cond.methodLink "TrapProverLaw" (70 : Nat) ({ cls := "TrapProverModel", name := "endless", desc := "()I" } : Jvm.MethodName)) ∈ lw_all := lw_g (lw_at lw_m2 87 rfl) rfl

/-! the law's own entry -/
set_option maxRecDepth 100000
abbrev cL_law : ByteArray := code
theorem dL_law_0 : decode cL_law 0 = .ok (.new 7, 3) := by decide +kernel
theorem dL_law_3 : decode cL_law 3 = .ok (.dup, 1) := by decide +kernel
theorem dL_law_4 : decode cL_law 4 = .ok (.invokespecial 9, 3) := by decide +kernel
theorem dL_law_7 : decode cL_law 7 = .ok (.astore_n 1, 1) := by decide +kernel
theorem dL_law_8 : decode cL_law 8 = .ok (.new 10, 3) := by decide +kernel
theorem dL_law_11 : decode cL_law 11 = .ok (.dup, 1) := by decide +kernel
theorem dL_law_12 : decode cL_law 12 = .ok (.invokespecial 12, 3) := by decide +kernel
theorem dL_law_15 : decode cL_law 15 = .ok (.astore_n 2, 1) := by decide +kernel
theorem dL_law_16 : decode cL_law 16 = .ok (.iconst 0, 1) := by decide +kernel
theorem dL_law_17 : decode cL_law 17 = .ok (.istore_n 3, 1) := by decide +kernel
theorem dL_law_18 : decode cL_law 18 = .ok (.iload_n 3, 1) := by decide +kernel
theorem dL_law_19 : decode cL_law 19 = .ok (.aload_n 0, 1) := by decide +kernel
theorem dL_law_20 : decode cL_law 20 = .ok (.arraylength, 1) := by decide +kernel
theorem dL_law_21 : decode cL_law 21 = .ok (.iconst 4, 1) := by decide +kernel
theorem dL_law_22 : decode cL_law 22 = .ok (.isub, 1) := by decide +kernel
theorem dL_law_23 : decode cL_law 23 = .ok (.if_icmp .gt 400, 3) := by decide +kernel
theorem dL_law_26 : decode cL_law 26 = .ok (.aload_n 0, 1) := by decide +kernel
theorem dL_law_27 : decode cL_law 27 = .ok (.iload_n 3, 1) := by decide +kernel
theorem dL_law_28 : decode cL_law 28 = .ok (.iaload, 1) := by decide +kernel
theorem dL_law_29 : decode cL_law 29 = .ok (.bipush 15, 2) := by decide +kernel
theorem dL_law_31 : decode cL_law 31 = .ok (.iand, 1) := by decide +kernel
theorem dL_law_32 : decode cL_law 32 = .ok (.tableswitch 385 0 12 #[68, 101, 134, 177, 188, 211, 254, 287, 310, 323, 346, 359, 372], 68) := by decide +kernel
theorem dL_law_100 : decode cL_law 100 = .ok (.aload_n 1, 1) := by decide +kernel
theorem dL_law_101 : decode cL_law 101 = .ok (.aload_n 0, 1) := by decide +kernel
theorem dL_law_102 : decode cL_law 102 = .ok (.iload_n 3, 1) := by decide +kernel
theorem dL_law_103 : decode cL_law 103 = .ok (.iconst 1, 1) := by decide +kernel
theorem dL_law_104 : decode cL_law 104 = .ok (.iadd, 1) := by decide +kernel
theorem dL_law_105 : decode cL_law 105 = .ok (.iaload, 1) := by decide +kernel
theorem dL_law_106 : decode cL_law 106 = .ok (.aload_n 0, 1) := by decide +kernel
theorem dL_law_107 : decode cL_law 107 = .ok (.iload_n 3, 1) := by decide +kernel
theorem dL_law_108 : decode cL_law 108 = .ok (.iconst 2, 1) := by decide +kernel
theorem dL_law_109 : decode cL_law 109 = .ok (.iadd, 1) := by decide +kernel
theorem dL_law_110 : decode cL_law 110 = .ok (.iaload, 1) := by decide +kernel
theorem dL_law_111 : decode cL_law 111 = .ok (.invokevirtual 13, 3) := by decide +kernel
theorem dL_law_114 : decode cL_law 114 = .ok (.aload_n 2, 1) := by decide +kernel
theorem dL_law_115 : decode cL_law 115 = .ok (.aload_n 0, 1) := by decide +kernel
theorem dL_law_116 : decode cL_law 116 = .ok (.iload_n 3, 1) := by decide +kernel
theorem dL_law_117 : decode cL_law 117 = .ok (.iconst 1, 1) := by decide +kernel
theorem dL_law_118 : decode cL_law 118 = .ok (.iadd, 1) := by decide +kernel
theorem dL_law_119 : decode cL_law 119 = .ok (.iaload, 1) := by decide +kernel
theorem dL_law_120 : decode cL_law 120 = .ok (.aload_n 0, 1) := by decide +kernel
theorem dL_law_121 : decode cL_law 121 = .ok (.iload_n 3, 1) := by decide +kernel
theorem dL_law_122 : decode cL_law 122 = .ok (.iconst 2, 1) := by decide +kernel
theorem dL_law_123 : decode cL_law 123 = .ok (.iadd, 1) := by decide +kernel
theorem dL_law_124 : decode cL_law 124 = .ok (.iaload, 1) := by decide +kernel
theorem dL_law_125 : decode cL_law 125 = .ok (.invokevirtual 17, 3) := by decide +kernel
theorem dL_law_128 : decode cL_law 128 = .ok (.if_icmp .eq 289, 3) := by decide +kernel
theorem dL_law_131 : decode cL_law 131 = .ok (.iconst 0, 1) := by decide +kernel
theorem dL_law_132 : decode cL_law 132 = .ok (.ireturn, 1) := by decide +kernel
theorem dL_law_133 : decode cL_law 133 = .ok (.aload_n 1, 1) := by decide +kernel
theorem dL_law_134 : decode cL_law 134 = .ok (.aload_n 0, 1) := by decide +kernel
theorem dL_law_135 : decode cL_law 135 = .ok (.iload_n 3, 1) := by decide +kernel
theorem dL_law_136 : decode cL_law 136 = .ok (.iconst 1, 1) := by decide +kernel
theorem dL_law_137 : decode cL_law 137 = .ok (.iadd, 1) := by decide +kernel
theorem dL_law_138 : decode cL_law 138 = .ok (.iaload, 1) := by decide +kernel
theorem dL_law_139 : decode cL_law 139 = .ok (.aload_n 0, 1) := by decide +kernel
theorem dL_law_140 : decode cL_law 140 = .ok (.iload_n 3, 1) := by decide +kernel
theorem dL_law_141 : decode cL_law 141 = .ok (.iconst 2, 1) := by decide +kernel
theorem dL_law_142 : decode cL_law 142 = .ok (.iadd, 1) := by decide +kernel
theorem dL_law_143 : decode cL_law 143 = .ok (.iaload, 1) := by decide +kernel
theorem dL_law_144 : decode cL_law 144 = .ok (.invokevirtual 18, 3) := by decide +kernel
theorem dL_law_147 : decode cL_law 147 = .ok (.aload_n 2, 1) := by decide +kernel
theorem dL_law_148 : decode cL_law 148 = .ok (.aload_n 0, 1) := by decide +kernel
theorem dL_law_149 : decode cL_law 149 = .ok (.iload_n 3, 1) := by decide +kernel
theorem dL_law_150 : decode cL_law 150 = .ok (.iconst 1, 1) := by decide +kernel
theorem dL_law_151 : decode cL_law 151 = .ok (.iadd, 1) := by decide +kernel
theorem dL_law_152 : decode cL_law 152 = .ok (.iaload, 1) := by decide +kernel
theorem dL_law_153 : decode cL_law 153 = .ok (.aload_n 0, 1) := by decide +kernel
theorem dL_law_154 : decode cL_law 154 = .ok (.iload_n 3, 1) := by decide +kernel
theorem dL_law_155 : decode cL_law 155 = .ok (.iconst 2, 1) := by decide +kernel
theorem dL_law_156 : decode cL_law 156 = .ok (.iadd, 1) := by decide +kernel
theorem dL_law_157 : decode cL_law 157 = .ok (.iaload, 1) := by decide +kernel
theorem dL_law_158 : decode cL_law 158 = .ok (.invokevirtual 21, 3) := by decide +kernel
theorem dL_law_161 : decode cL_law 161 = .ok (.if_icmp .eq 256, 3) := by decide +kernel
theorem dL_law_164 : decode cL_law 164 = .ok (.iconst 0, 1) := by decide +kernel
theorem dL_law_165 : decode cL_law 165 = .ok (.ireturn, 1) := by decide +kernel
theorem dL_law_166 : decode cL_law 166 = .ok (.aload_n 1, 1) := by decide +kernel
theorem dL_law_167 : decode cL_law 167 = .ok (.aload_n 0, 1) := by decide +kernel
theorem dL_law_168 : decode cL_law 168 = .ok (.iload_n 3, 1) := by decide +kernel
theorem dL_law_169 : decode cL_law 169 = .ok (.iconst 1, 1) := by decide +kernel
theorem dL_law_170 : decode cL_law 170 = .ok (.iadd, 1) := by decide +kernel
theorem dL_law_171 : decode cL_law 171 = .ok (.iaload, 1) := by decide +kernel
theorem dL_law_172 : decode cL_law 172 = .ok (.aload_n 0, 1) := by decide +kernel
theorem dL_law_173 : decode cL_law 173 = .ok (.iload_n 3, 1) := by decide +kernel
theorem dL_law_174 : decode cL_law 174 = .ok (.iconst 2, 1) := by decide +kernel
theorem dL_law_175 : decode cL_law 175 = .ok (.iadd, 1) := by decide +kernel
theorem dL_law_176 : decode cL_law 176 = .ok (.iaload, 1) := by decide +kernel
theorem dL_law_177 : decode cL_law 177 = .ok (.aload_n 0, 1) := by decide +kernel
theorem dL_law_178 : decode cL_law 178 = .ok (.iload_n 3, 1) := by decide +kernel
theorem dL_law_179 : decode cL_law 179 = .ok (.iconst 3, 1) := by decide +kernel
theorem dL_law_180 : decode cL_law 180 = .ok (.iadd, 1) := by decide +kernel
theorem dL_law_181 : decode cL_law 181 = .ok (.iaload, 1) := by decide +kernel
theorem dL_law_182 : decode cL_law 182 = .ok (.invokevirtual 22, 3) := by decide +kernel
theorem dL_law_185 : decode cL_law 185 = .ok (.aload_n 2, 1) := by decide +kernel
theorem dL_law_186 : decode cL_law 186 = .ok (.aload_n 0, 1) := by decide +kernel
theorem dL_law_187 : decode cL_law 187 = .ok (.iload_n 3, 1) := by decide +kernel
theorem dL_law_188 : decode cL_law 188 = .ok (.iconst 1, 1) := by decide +kernel
theorem dL_law_189 : decode cL_law 189 = .ok (.iadd, 1) := by decide +kernel
theorem dL_law_190 : decode cL_law 190 = .ok (.iaload, 1) := by decide +kernel
theorem dL_law_191 : decode cL_law 191 = .ok (.aload_n 0, 1) := by decide +kernel
theorem dL_law_192 : decode cL_law 192 = .ok (.iload_n 3, 1) := by decide +kernel
theorem dL_law_193 : decode cL_law 193 = .ok (.iconst 2, 1) := by decide +kernel
theorem dL_law_194 : decode cL_law 194 = .ok (.iadd, 1) := by decide +kernel
theorem dL_law_195 : decode cL_law 195 = .ok (.iaload, 1) := by decide +kernel
theorem dL_law_196 : decode cL_law 196 = .ok (.aload_n 0, 1) := by decide +kernel
theorem dL_law_197 : decode cL_law 197 = .ok (.iload_n 3, 1) := by decide +kernel
theorem dL_law_198 : decode cL_law 198 = .ok (.iconst 3, 1) := by decide +kernel
theorem dL_law_199 : decode cL_law 199 = .ok (.iadd, 1) := by decide +kernel
theorem dL_law_200 : decode cL_law 200 = .ok (.iaload, 1) := by decide +kernel
theorem dL_law_201 : decode cL_law 201 = .ok (.invokevirtual 26, 3) := by decide +kernel
theorem dL_law_204 : decode cL_law 204 = .ok (.if_icmp .eq 213, 3) := by decide +kernel
theorem dL_law_207 : decode cL_law 207 = .ok (.iconst 0, 1) := by decide +kernel
theorem dL_law_208 : decode cL_law 208 = .ok (.ireturn, 1) := by decide +kernel
theorem dL_law_209 : decode cL_law 209 = .ok (.aload_n 1, 1) := by decide +kernel
theorem dL_law_210 : decode cL_law 210 = .ok (.invokevirtual 27, 3) := by decide +kernel
theorem dL_law_213 : decode cL_law 213 = .ok (.aload_n 2, 1) := by decide +kernel
theorem dL_law_214 : decode cL_law 214 = .ok (.invokevirtual 30, 3) := by decide +kernel
theorem dL_law_217 : decode cL_law 217 = .ok (.goto 200, 3) := by decide +kernel
theorem dL_law_220 : decode cL_law 220 = .ok (.aload_n 1, 1) := by decide +kernel
theorem dL_law_221 : decode cL_law 221 = .ok (.aload_n 0, 1) := by decide +kernel
theorem dL_law_222 : decode cL_law 222 = .ok (.iload_n 3, 1) := by decide +kernel
theorem dL_law_223 : decode cL_law 223 = .ok (.iconst 1, 1) := by decide +kernel
theorem dL_law_224 : decode cL_law 224 = .ok (.iadd, 1) := by decide +kernel
theorem dL_law_225 : decode cL_law 225 = .ok (.iaload, 1) := by decide +kernel
theorem dL_law_226 : decode cL_law 226 = .ok (.invokevirtual 31, 3) := by decide +kernel
theorem dL_law_229 : decode cL_law 229 = .ok (.aload_n 2, 1) := by decide +kernel
theorem dL_law_230 : decode cL_law 230 = .ok (.aload_n 0, 1) := by decide +kernel
theorem dL_law_231 : decode cL_law 231 = .ok (.iload_n 3, 1) := by decide +kernel
theorem dL_law_232 : decode cL_law 232 = .ok (.iconst 1, 1) := by decide +kernel
theorem dL_law_233 : decode cL_law 233 = .ok (.iadd, 1) := by decide +kernel
theorem dL_law_234 : decode cL_law 234 = .ok (.iaload, 1) := by decide +kernel
theorem dL_law_235 : decode cL_law 235 = .ok (.invokevirtual 35, 3) := by decide +kernel
theorem dL_law_238 : decode cL_law 238 = .ok (.if_icmp .eq 179, 3) := by decide +kernel
theorem dL_law_241 : decode cL_law 241 = .ok (.iconst 0, 1) := by decide +kernel
theorem dL_law_242 : decode cL_law 242 = .ok (.ireturn, 1) := by decide +kernel
theorem dL_law_243 : decode cL_law 243 = .ok (.aload_n 1, 1) := by decide +kernel
theorem dL_law_244 : decode cL_law 244 = .ok (.aload_n 0, 1) := by decide +kernel
theorem dL_law_245 : decode cL_law 245 = .ok (.iload_n 3, 1) := by decide +kernel
theorem dL_law_246 : decode cL_law 246 = .ok (.iconst 1, 1) := by decide +kernel
theorem dL_law_247 : decode cL_law 247 = .ok (.iadd, 1) := by decide +kernel
theorem dL_law_248 : decode cL_law 248 = .ok (.iaload, 1) := by decide +kernel
theorem dL_law_249 : decode cL_law 249 = .ok (.aload_n 0, 1) := by decide +kernel
theorem dL_law_250 : decode cL_law 250 = .ok (.iload_n 3, 1) := by decide +kernel
theorem dL_law_251 : decode cL_law 251 = .ok (.iconst 2, 1) := by decide +kernel
theorem dL_law_252 : decode cL_law 252 = .ok (.iadd, 1) := by decide +kernel
theorem dL_law_253 : decode cL_law 253 = .ok (.iaload, 1) := by decide +kernel
theorem dL_law_254 : decode cL_law 254 = .ok (.aload_n 0, 1) := by decide +kernel
theorem dL_law_255 : decode cL_law 255 = .ok (.iload_n 3, 1) := by decide +kernel
theorem dL_law_256 : decode cL_law 256 = .ok (.iconst 3, 1) := by decide +kernel
theorem dL_law_257 : decode cL_law 257 = .ok (.iadd, 1) := by decide +kernel
theorem dL_law_258 : decode cL_law 258 = .ok (.iaload, 1) := by decide +kernel
theorem dL_law_259 : decode cL_law 259 = .ok (.invokevirtual 36, 3) := by decide +kernel
theorem dL_law_262 : decode cL_law 262 = .ok (.aload_n 2, 1) := by decide +kernel
theorem dL_law_263 : decode cL_law 263 = .ok (.aload_n 0, 1) := by decide +kernel
theorem dL_law_264 : decode cL_law 264 = .ok (.iload_n 3, 1) := by decide +kernel
theorem dL_law_265 : decode cL_law 265 = .ok (.iconst 1, 1) := by decide +kernel
theorem dL_law_266 : decode cL_law 266 = .ok (.iadd, 1) := by decide +kernel
theorem dL_law_267 : decode cL_law 267 = .ok (.iaload, 1) := by decide +kernel
theorem dL_law_268 : decode cL_law 268 = .ok (.aload_n 0, 1) := by decide +kernel
theorem dL_law_269 : decode cL_law 269 = .ok (.iload_n 3, 1) := by decide +kernel
theorem dL_law_270 : decode cL_law 270 = .ok (.iconst 2, 1) := by decide +kernel
theorem dL_law_271 : decode cL_law 271 = .ok (.iadd, 1) := by decide +kernel
theorem dL_law_272 : decode cL_law 272 = .ok (.iaload, 1) := by decide +kernel
theorem dL_law_273 : decode cL_law 273 = .ok (.aload_n 0, 1) := by decide +kernel
theorem dL_law_274 : decode cL_law 274 = .ok (.iload_n 3, 1) := by decide +kernel
theorem dL_law_275 : decode cL_law 275 = .ok (.iconst 3, 1) := by decide +kernel
theorem dL_law_276 : decode cL_law 276 = .ok (.iadd, 1) := by decide +kernel
theorem dL_law_277 : decode cL_law 277 = .ok (.iaload, 1) := by decide +kernel
theorem dL_law_278 : decode cL_law 278 = .ok (.invokevirtual 40, 3) := by decide +kernel
theorem dL_law_281 : decode cL_law 281 = .ok (.if_icmp .eq 136, 3) := by decide +kernel
theorem dL_law_284 : decode cL_law 284 = .ok (.iconst 0, 1) := by decide +kernel
theorem dL_law_285 : decode cL_law 285 = .ok (.ireturn, 1) := by decide +kernel
theorem dL_law_286 : decode cL_law 286 = .ok (.aload_n 1, 1) := by decide +kernel
theorem dL_law_287 : decode cL_law 287 = .ok (.aload_n 0, 1) := by decide +kernel
theorem dL_law_288 : decode cL_law 288 = .ok (.iload_n 3, 1) := by decide +kernel
theorem dL_law_289 : decode cL_law 289 = .ok (.iconst 1, 1) := by decide +kernel
theorem dL_law_290 : decode cL_law 290 = .ok (.iadd, 1) := by decide +kernel
theorem dL_law_291 : decode cL_law 291 = .ok (.iaload, 1) := by decide +kernel
theorem dL_law_292 : decode cL_law 292 = .ok (.aload_n 0, 1) := by decide +kernel
theorem dL_law_293 : decode cL_law 293 = .ok (.iload_n 3, 1) := by decide +kernel
theorem dL_law_294 : decode cL_law 294 = .ok (.iconst 2, 1) := by decide +kernel
theorem dL_law_295 : decode cL_law 295 = .ok (.iadd, 1) := by decide +kernel
theorem dL_law_296 : decode cL_law 296 = .ok (.iaload, 1) := by decide +kernel
theorem dL_law_297 : decode cL_law 297 = .ok (.invokevirtual 41, 3) := by decide +kernel
theorem dL_law_300 : decode cL_law 300 = .ok (.aload_n 2, 1) := by decide +kernel
theorem dL_law_301 : decode cL_law 301 = .ok (.aload_n 0, 1) := by decide +kernel
theorem dL_law_302 : decode cL_law 302 = .ok (.iload_n 3, 1) := by decide +kernel
theorem dL_law_303 : decode cL_law 303 = .ok (.iconst 1, 1) := by decide +kernel
theorem dL_law_304 : decode cL_law 304 = .ok (.iadd, 1) := by decide +kernel
theorem dL_law_305 : decode cL_law 305 = .ok (.iaload, 1) := by decide +kernel
theorem dL_law_306 : decode cL_law 306 = .ok (.aload_n 0, 1) := by decide +kernel
theorem dL_law_307 : decode cL_law 307 = .ok (.iload_n 3, 1) := by decide +kernel
theorem dL_law_308 : decode cL_law 308 = .ok (.iconst 2, 1) := by decide +kernel
theorem dL_law_309 : decode cL_law 309 = .ok (.iadd, 1) := by decide +kernel
theorem dL_law_310 : decode cL_law 310 = .ok (.iaload, 1) := by decide +kernel
theorem dL_law_311 : decode cL_law 311 = .ok (.invokevirtual 44, 3) := by decide +kernel
theorem dL_law_314 : decode cL_law 314 = .ok (.if_icmp .eq 103, 3) := by decide +kernel
theorem dL_law_317 : decode cL_law 317 = .ok (.iconst 0, 1) := by decide +kernel
theorem dL_law_318 : decode cL_law 318 = .ok (.ireturn, 1) := by decide +kernel
theorem dL_law_319 : decode cL_law 319 = .ok (.aload_n 1, 1) := by decide +kernel
theorem dL_law_320 : decode cL_law 320 = .ok (.aload_n 0, 1) := by decide +kernel
theorem dL_law_321 : decode cL_law 321 = .ok (.iload_n 3, 1) := by decide +kernel
theorem dL_law_322 : decode cL_law 322 = .ok (.iconst 1, 1) := by decide +kernel
theorem dL_law_323 : decode cL_law 323 = .ok (.iadd, 1) := by decide +kernel
theorem dL_law_324 : decode cL_law 324 = .ok (.iaload, 1) := by decide +kernel
theorem dL_law_325 : decode cL_law 325 = .ok (.invokevirtual 45, 3) := by decide +kernel
theorem dL_law_328 : decode cL_law 328 = .ok (.aload_n 2, 1) := by decide +kernel
theorem dL_law_329 : decode cL_law 329 = .ok (.aload_n 0, 1) := by decide +kernel
theorem dL_law_330 : decode cL_law 330 = .ok (.iload_n 3, 1) := by decide +kernel
theorem dL_law_331 : decode cL_law 331 = .ok (.iconst 1, 1) := by decide +kernel
theorem dL_law_332 : decode cL_law 332 = .ok (.iadd, 1) := by decide +kernel
theorem dL_law_333 : decode cL_law 333 = .ok (.iaload, 1) := by decide +kernel
theorem dL_law_334 : decode cL_law 334 = .ok (.invokevirtual 48, 3) := by decide +kernel
theorem dL_law_337 : decode cL_law 337 = .ok (.if_icmp .eq 80, 3) := by decide +kernel
theorem dL_law_340 : decode cL_law 340 = .ok (.iconst 0, 1) := by decide +kernel
theorem dL_law_341 : decode cL_law 341 = .ok (.ireturn, 1) := by decide +kernel
theorem dL_law_342 : decode cL_law 342 = .ok (.aload_n 1, 1) := by decide +kernel
theorem dL_law_343 : decode cL_law 343 = .ok (.invokevirtual 49, 3) := by decide +kernel
theorem dL_law_346 : decode cL_law 346 = .ok (.aload_n 2, 1) := by decide +kernel
theorem dL_law_347 : decode cL_law 347 = .ok (.invokevirtual 53, 3) := by decide +kernel
theorem dL_law_350 : decode cL_law 350 = .ok (.if_icmp .eq 67, 3) := by decide +kernel
theorem dL_law_353 : decode cL_law 353 = .ok (.iconst 0, 1) := by decide +kernel
theorem dL_law_354 : decode cL_law 354 = .ok (.ireturn, 1) := by decide +kernel
theorem dL_law_355 : decode cL_law 355 = .ok (.aload_n 1, 1) := by decide +kernel
theorem dL_law_356 : decode cL_law 356 = .ok (.aload_n 0, 1) := by decide +kernel
theorem dL_law_357 : decode cL_law 357 = .ok (.iload_n 3, 1) := by decide +kernel
theorem dL_law_358 : decode cL_law 358 = .ok (.iconst 1, 1) := by decide +kernel
theorem dL_law_359 : decode cL_law 359 = .ok (.iadd, 1) := by decide +kernel
theorem dL_law_360 : decode cL_law 360 = .ok (.iaload, 1) := by decide +kernel
theorem dL_law_361 : decode cL_law 361 = .ok (.invokevirtual 54, 3) := by decide +kernel
theorem dL_law_364 : decode cL_law 364 = .ok (.aload_n 2, 1) := by decide +kernel
theorem dL_law_365 : decode cL_law 365 = .ok (.aload_n 0, 1) := by decide +kernel
theorem dL_law_366 : decode cL_law 366 = .ok (.iload_n 3, 1) := by decide +kernel
theorem dL_law_367 : decode cL_law 367 = .ok (.iconst 1, 1) := by decide +kernel
theorem dL_law_368 : decode cL_law 368 = .ok (.iadd, 1) := by decide +kernel
theorem dL_law_369 : decode cL_law 369 = .ok (.iaload, 1) := by decide +kernel
theorem dL_law_370 : decode cL_law 370 = .ok (.invokevirtual 57, 3) := by decide +kernel
theorem dL_law_373 : decode cL_law 373 = .ok (.if_icmp .eq 44, 3) := by decide +kernel
theorem dL_law_376 : decode cL_law 376 = .ok (.iconst 0, 1) := by decide +kernel
theorem dL_law_377 : decode cL_law 377 = .ok (.ireturn, 1) := by decide +kernel
theorem dL_law_378 : decode cL_law 378 = .ok (.aload_n 1, 1) := by decide +kernel
theorem dL_law_379 : decode cL_law 379 = .ok (.invokevirtual 58, 3) := by decide +kernel
theorem dL_law_382 : decode cL_law 382 = .ok (.aload_n 2, 1) := by decide +kernel
theorem dL_law_383 : decode cL_law 383 = .ok (.invokevirtual 61, 3) := by decide +kernel
theorem dL_law_386 : decode cL_law 386 = .ok (.if_icmp .eq 31, 3) := by decide +kernel
theorem dL_law_389 : decode cL_law 389 = .ok (.iconst 0, 1) := by decide +kernel
theorem dL_law_390 : decode cL_law 390 = .ok (.ireturn, 1) := by decide +kernel
theorem dL_law_391 : decode cL_law 391 = .ok (.aload_n 1, 1) := by decide +kernel
theorem dL_law_392 : decode cL_law 392 = .ok (.invokevirtual 62, 3) := by decide +kernel
theorem dL_law_395 : decode cL_law 395 = .ok (.aload_n 2, 1) := by decide +kernel
theorem dL_law_396 : decode cL_law 396 = .ok (.invokevirtual 65, 3) := by decide +kernel
theorem dL_law_399 : decode cL_law 399 = .ok (.if_icmp .eq 18, 3) := by decide +kernel
theorem dL_law_402 : decode cL_law 402 = .ok (.iconst 0, 1) := by decide +kernel
theorem dL_law_403 : decode cL_law 403 = .ok (.ireturn, 1) := by decide +kernel
theorem dL_law_404 : decode cL_law 404 = .ok (.aload_n 1, 1) := by decide +kernel
theorem dL_law_405 : decode cL_law 405 = .ok (.invokevirtual 66, 3) := by decide +kernel
theorem dL_law_408 : decode cL_law 408 = .ok (.aload_n 2, 1) := by decide +kernel
theorem dL_law_409 : decode cL_law 409 = .ok (.invokevirtual 70, 3) := by decide +kernel
theorem dL_law_412 : decode cL_law 412 = .ok (.if_icmp .eq 5, 3) := by decide +kernel
theorem dL_law_415 : decode cL_law 415 = .ok (.iconst 0, 1) := by decide +kernel
theorem dL_law_416 : decode cL_law 416 = .ok (.ireturn, 1) := by decide +kernel
theorem dL_law_417 : decode cL_law 417 = .ok (.iinc 3 4, 3) := by decide +kernel
theorem dL_law_420 : decode cL_law 420 = .ok (.goto (-402), 3) := by decide +kernel
theorem dL_law_423 : decode cL_law 423 = .ok (.iconst 1, 1) := by decide +kernel
theorem dL_law_424 : decode cL_law 424 = .ok (.ireturn, 1) := by decide +kernel
end
section
/-! the two classes: worlds, shapes, call rows -/
set_option maxRecDepth 100000
abbrev vwCl : List vw_C := [(RX0, TX0, 16), (RX1, TX1, 13)]
abbrev fldsX0 (h : Nat → Nat) (a : tz_S) : List Value := [.int (a 0 0), .ref (h 1), .ref (h 2), .ref (h 3), .ref (h 4), .int (a 5 0), .ref (h 6), .ref (h 7), .ref (h 8), .ref (h 9), .ref (h 10), .int (a 11 0), .ref (h 12), .ref (h 13), .ref (h 14), .ref (h 15)]
abbrev wrldX0 (h : Nat → Nat) (d : ClassId) (a : tz_S) : va_W := [(h 0, .inr (0, fldsX0 h a)), (h 1, .inl (d, 16, .inl (a 1))), (h 2, .inl (d, 16, .inl (a 2))), (h 3, .inl (d, 2, .inl (a 3))), (h 4, .inl (d, 2, .inl (a 4))), (h 6, .inl (d, 256, .inl (a 6))), (h 7, .inl (d, 256, .inl (a 7))), (h 8, .inl (d, 256, .inl (a 8))), (h 9, .inl (d, 256, .inl (a 9))), (h 10, .inl (d, 16, .inl (a 10))), (h 12, .inl (d, 16, .inl (a 12))), (h 13, .inl (d, 16, .inl (a 13))), (h 14, .inl (d, 16, .inl (a 14))), (h 15, .inl (d, 16, .inl (a 15)))]
def shpX0 : Nat → Option Nat := fun k => match k with
  | 0 => none
  | 1 => some 16
  | 2 => some 16
  | 3 => some 2
  | 4 => some 2
  | 5 => none
  | 6 => some 256
  | 7 => some 256
  | 8 => some 256
  | 9 => some 256
  | 10 => some 16
  | 11 => none
  | 12 => some 16
  | 13 => some 16
  | 14 => some 16
  | 15 => some 16
  | _ => none
def IX0 : tz_I := (vwCl, wrldX0, fldsX0, RX0, TX0, tyX0, 16, 0, shpX0, fun d => [(d, .int)])
abbrev fldsX1 (h : Nat → Nat) (a : tz_S) : List Value := [.int (a 0 0), .ref (h 1), .ref (h 2), .ref (h 3), .ref (h 4), .int (a 5 0), .ref (h 6), .ref (h 7), .ref (h 8), .ref (h 9), .ref (h 10), .ref (h 11), .int (a 12 0)]
abbrev wrldX1 (h : Nat → Nat) (d : ClassId) (a : tz_S) : va_W := [(h 0, .inr (1, fldsX1 h a)), (h 1, .inl (d, 16, .inl (a 1))), (h 2, .inl (d, 16, .inl (a 2))), (h 3, .inl (d, 2, .inl (a 3))), (h 4, .inl (d, 2, .inl (a 4))), (h 6, .inl (d, 256, .inl (a 6))), (h 7, .inl (d, 256, .inl (a 7))), (h 8, .inl (d, 256, .inl (a 8))), (h 9, .inl (d, 256, .inl (a 9))), (h 10, .inl (d, 16, .inl (a 10))), (h 11, .inl (d, 16, .inl (a 11)))]
def shpX1 : Nat → Option Nat := fun k => match k with
  | 0 => none
  | 1 => some 16
  | 2 => some 16
  | 3 => some 2
  | 4 => some 2
  | 5 => none
  | 6 => some 256
  | 7 => some 256
  | 8 => some 256
  | 9 => some 256
  | 10 => some 16
  | 11 => some 16
  | 12 => none
  | _ => none
def IX1 : tz_I := (vwCl, wrldX1, fldsX1, RX1, TX1, tyX1, 13, 1, shpX1, fun d => [(d, .int)])
theorem okX0 : tz_ok IX0 := by
  refine ⟨in_X0, tyX0_ok, nmX0, rfl, fun _ _ _ => rfl, ?_, ?_, fun _ => rfl⟩
  · intro k n h
    have h : shpX0 k = some n := h
    match k, h with
    | 0, h => exact absurd h (by simp [shpX0])
    | 1, h => cases h; exact ⟨(by decide : 1 < 16), by decide, fun _ _ => rfl, 1, fun h d a => ⟨rfl, fun j v => rfl⟩⟩
    | 2, h => cases h; exact ⟨(by decide : 2 < 16), by decide, fun _ _ => rfl, 2, fun h d a => ⟨rfl, fun j v => rfl⟩⟩
    | 3, h => cases h; exact ⟨(by decide : 3 < 16), by decide, fun _ _ => rfl, 3, fun h d a => ⟨rfl, fun j v => rfl⟩⟩
    | 4, h => cases h; exact ⟨(by decide : 4 < 16), by decide, fun _ _ => rfl, 4, fun h d a => ⟨rfl, fun j v => rfl⟩⟩
    | 5, h => exact absurd h (by simp [shpX0])
    | 6, h => cases h; exact ⟨(by decide : 6 < 16), by decide, fun _ _ => rfl, 5, fun h d a => ⟨rfl, fun j v => rfl⟩⟩
    | 7, h => cases h; exact ⟨(by decide : 7 < 16), by decide, fun _ _ => rfl, 6, fun h d a => ⟨rfl, fun j v => rfl⟩⟩
    | 8, h => cases h; exact ⟨(by decide : 8 < 16), by decide, fun _ _ => rfl, 7, fun h d a => ⟨rfl, fun j v => rfl⟩⟩
    | 9, h => cases h; exact ⟨(by decide : 9 < 16), by decide, fun _ _ => rfl, 8, fun h d a => ⟨rfl, fun j v => rfl⟩⟩
    | 10, h => cases h; exact ⟨(by decide : 10 < 16), by decide, fun _ _ => rfl, 9, fun h d a => ⟨rfl, fun j v => rfl⟩⟩
    | 11, h => exact absurd h (by simp [shpX0])
    | 12, h => cases h; exact ⟨(by decide : 12 < 16), by decide, fun _ _ => rfl, 10, fun h d a => ⟨rfl, fun j v => rfl⟩⟩
    | 13, h => cases h; exact ⟨(by decide : 13 < 16), by decide, fun _ _ => rfl, 11, fun h d a => ⟨rfl, fun j v => rfl⟩⟩
    | 14, h => cases h; exact ⟨(by decide : 14 < 16), by decide, fun _ _ => rfl, 12, fun h d a => ⟨rfl, fun j v => rfl⟩⟩
    | 15, h => cases h; exact ⟨(by decide : 15 < 16), by decide, fun _ _ => rfl, 13, fun h d a => ⟨rfl, fun j v => rfl⟩⟩
    | k + 16, h => exact absurd h (by simp [shpX0])
  · intro k hk h
    have hk : k < 16 := hk
    have h : shpX0 k = none := h
    match k, h with
    | 0, h => exact ⟨rfl, fun h d a => ⟨rfl, fun v => rfl⟩⟩
    | 1, h => exact absurd h (by simp [shpX0])
    | 2, h => exact absurd h (by simp [shpX0])
    | 3, h => exact absurd h (by simp [shpX0])
    | 4, h => exact absurd h (by simp [shpX0])
    | 5, h => exact ⟨rfl, fun h d a => ⟨rfl, fun v => rfl⟩⟩
    | 6, h => exact absurd h (by simp [shpX0])
    | 7, h => exact absurd h (by simp [shpX0])
    | 8, h => exact absurd h (by simp [shpX0])
    | 9, h => exact absurd h (by simp [shpX0])
    | 10, h => exact absurd h (by simp [shpX0])
    | 11, h => exact ⟨rfl, fun h d a => ⟨rfl, fun v => rfl⟩⟩
    | 12, h => exact absurd h (by simp [shpX0])
    | 13, h => exact absurd h (by simp [shpX0])
    | 14, h => exact absurd h (by simp [shpX0])
    | 15, h => exact absurd h (by simp [shpX0])
    | k + 16, h => exact absurd hk (by omega)
theorem okX1 : tz_ok IX1 := by
  refine ⟨in_X1, tyX1_ok, nmX1, rfl, fun _ _ _ => rfl, ?_, ?_, fun _ => rfl⟩
  · intro k n h
    have h : shpX1 k = some n := h
    match k, h with
    | 0, h => exact absurd h (by simp [shpX1])
    | 1, h => cases h; exact ⟨(by decide : 1 < 13), by decide, fun _ _ => rfl, 1, fun h d a => ⟨rfl, fun j v => rfl⟩⟩
    | 2, h => cases h; exact ⟨(by decide : 2 < 13), by decide, fun _ _ => rfl, 2, fun h d a => ⟨rfl, fun j v => rfl⟩⟩
    | 3, h => cases h; exact ⟨(by decide : 3 < 13), by decide, fun _ _ => rfl, 3, fun h d a => ⟨rfl, fun j v => rfl⟩⟩
    | 4, h => cases h; exact ⟨(by decide : 4 < 13), by decide, fun _ _ => rfl, 4, fun h d a => ⟨rfl, fun j v => rfl⟩⟩
    | 5, h => exact absurd h (by simp [shpX1])
    | 6, h => cases h; exact ⟨(by decide : 6 < 13), by decide, fun _ _ => rfl, 5, fun h d a => ⟨rfl, fun j v => rfl⟩⟩
    | 7, h => cases h; exact ⟨(by decide : 7 < 13), by decide, fun _ _ => rfl, 6, fun h d a => ⟨rfl, fun j v => rfl⟩⟩
    | 8, h => cases h; exact ⟨(by decide : 8 < 13), by decide, fun _ _ => rfl, 7, fun h d a => ⟨rfl, fun j v => rfl⟩⟩
    | 9, h => cases h; exact ⟨(by decide : 9 < 13), by decide, fun _ _ => rfl, 8, fun h d a => ⟨rfl, fun j v => rfl⟩⟩
    | 10, h => cases h; exact ⟨(by decide : 10 < 13), by decide, fun _ _ => rfl, 9, fun h d a => ⟨rfl, fun j v => rfl⟩⟩
    | 11, h => cases h; exact ⟨(by decide : 11 < 13), by decide, fun _ _ => rfl, 10, fun h d a => ⟨rfl, fun j v => rfl⟩⟩
    | 12, h => exact absurd h (by simp [shpX1])
    | k + 13, h => exact absurd h (by simp [shpX1])
  · intro k hk h
    have hk : k < 13 := hk
    have h : shpX1 k = none := h
    match k, h with
    | 0, h => exact ⟨rfl, fun h d a => ⟨rfl, fun v => rfl⟩⟩
    | 1, h => exact absurd h (by simp [shpX1])
    | 2, h => exact absurd h (by simp [shpX1])
    | 3, h => exact absurd h (by simp [shpX1])
    | 4, h => exact absurd h (by simp [shpX1])
    | 5, h => exact ⟨rfl, fun h d a => ⟨rfl, fun v => rfl⟩⟩
    | 6, h => exact absurd h (by simp [shpX1])
    | 7, h => exact absurd h (by simp [shpX1])
    | 8, h => exact absurd h (by simp [shpX1])
    | 9, h => exact absurd h (by simp [shpX1])
    | 10, h => exact absurd h (by simp [shpX1])
    | 11, h => exact absurd h (by simp [shpX1])
    | 12, h => exact ⟨rfl, fun h d a => ⟨rfl, fun v => rfl⟩⟩
    | k + 13, h => exact absurd hk (by omega)
theorem vX0_above : tz_Vs "TrapProver" 82 yX0_above cX0_above 1 (some .int) 0 1 := fun h1 h2 h3 => va_cwS 1 h1 (lw_S q157 q158 q28 q159) rfl rfl rfl (by decide +kernel) ⟨h2, h3⟩
theorem vX0_addPair : tz_V "TrapProver" IX0 79 yX0_addPair cX0_addPair 3 none 0 2 := fun h1 h2 h3 => cwV 2 h1 (lw_V q144 q146 qs9 q28 q147) rfl rfl rfl (by decide +kernel) ⟨h2, h3⟩
theorem vX0_anyAlive : tz_V "TrapProver" IX0 113 yX0_anyAlive cX0_anyAlive 5 (some .boolean) 1 2 := fun h1 h2 h3 => cwV 2 h1 (lw_V q176 q178 qs16 q28 q179) rfl rfl rfl (by decide +kernel) ⟨h2, h3⟩
theorem vLX0_begin : tz_V "TrapProverLaw" IX0 22 yX0_begin cX0_begin 4 (some .int) 0 3 := fun h1 h2 h3 => cwV 3 h1 (lw_V q100 q101 q102 q28 q103) rfl rfl rfl (by decide +kernel) ⟨h2, h3⟩
theorem vX0_branchRow : tz_V "TrapProver" IX0 73 yX0_branchRow cX0_branchRow 4 none 1 2 := fun h1 h2 h3 => cwV 2 h1 (lw_V q153 q155 qs11 q28 q156) rfl rfl rfl (by decide +kernel) ⟨h2, h3⟩
theorem vLX0_canEnd : tz_V "TrapProverLaw" IX0 58 yX0_canEnd cX0_canEnd 1 (some .boolean) 8 0 := fun h1 h2 h3 => cwV 0 h1 (lw_V q207 q208 q209 q28 q210) rfl rfl rfl (by decide +kernel) ⟨h2, h3⟩
theorem vLX0_canRunForever : tz_V "TrapProverLaw" IX0 62 yX0_canRunForever cX0_canRunForever 2 (some .boolean) 9 0 := fun h1 h2 h3 => cwV 0 h1 (lw_V q211 q212 q213 q28 q214) rfl rfl rfl (by decide +kernel) ⟨h2, h3⟩
theorem vX0_checkRow : tz_V "TrapProver" IX0 70 yX0_checkRow cX0_checkRow 4 none 0 3 := fun h1 h2 h3 => cwV 3 h1 (lw_V q148 q150 qs10 q28 q151) rfl rfl rfl (by decide +kernel) ⟨h2, h3⟩
theorem vLX0_clear : tz_V "TrapProverLaw" IX0 27 yX0_clear cX0_clear 1 none 0 0 := fun h1 h2 h3 => cwV 0 h1 (lw_V q104 q105 q106 q28 q107) rfl rfl rfl (by decide +kernel) ⟨h2, h3⟩
theorem vLX0_emit : tz_V "TrapProverLaw" IX0 13 yX0_emit cX0_emit 3 (some .int) 0 2 := fun h1 h2 h3 => cwV 2 h1 (lw_V q88 q89 q90 q28 q91) rfl rfl rfl (by decide +kernel) ⟨h2, h3⟩
theorem vX0_endless : tz_V "TrapProver" IX0 129 yX0_endless cX0_endless 3 (some .int) 8 0 := fun h1 h2 h3 => cwV 0 h1 (lw_V q215 q216 q217 q28 q218) rfl rfl rfl (by decide +kernel) ⟨h2, h3⟩
theorem vLX0_endless : tz_V "TrapProverLaw" IX0 66 yX0_endless cX0_endless 3 (some .int) 8 0 := fun h1 h2 h3 => cwV 0 h1 (lw_V q219 q216 q217 q28 q218) rfl rfl rfl (by decide +kernel) ⟨h2, h3⟩
theorem vX0_findEndless : tz_V "TrapProver" IX0 106 yX0_findEndless cX0_findEndless 5 none 6 0 := fun h1 h2 h3 => cwV 0 h1 (lw_V q164 q166 qs13 q28 q167) rfl rfl rfl (by decide +kernel) ⟨h2, h3⟩
theorem vX0_leadsOn : tz_V "TrapProver" IX0 109 yX0_leadsOn cX0_leadsOn 6 (some .boolean) 4 3 := fun h1 h2 h3 => cwV 3 h1 (lw_V q172 q174 qs15 q28 q175) rfl rfl rfl (by decide +kernel) ⟨h2, h3⟩
theorem vX0_noInstruction : tz_V "TrapProver" IX0 57 yX0_noInstruction cX0_noInstruction 2 (some .boolean) 0 1 := fun h1 h2 h3 => cwV 1 h1 (lw_V q96 q98 qs0 q28 q99) rfl rfl rfl (by decide +kernel) ⟨h2, h3⟩
theorem vX0_ones : tz_Vs "TrapProver" 123 yX0_ones cX0_ones 3 (some .int) 0 1 := fun h1 h2 h3 => va_cwS 1 h1 (lw_S q180 q181 q28 q182) rfl rfl rfl (by decide +kernel) ⟨h2, h3⟩
theorem vX0_pair : tz_V "TrapProver" IX0 76 yX0_pair cX0_pair 4 none 1 3 := fun h1 h2 h3 => cwV 3 h1 (lw_V q140 q142 qs8 q28 q143) rfl rfl rfl (by decide +kernel) ⟨h2, h3⟩
theorem vX0_pairs : tz_V "TrapProver" IX0 66 yX0_pairs cX0_pairs 4 none 2 2 := fun h1 h2 h3 => cwV 2 h1 (lw_V q136 q138 qs7 q28 q139) rfl rfl rfl (by decide +kernel) ⟨h2, h3⟩
theorem vX0_passOn : tz_V "TrapProver" IX0 103 yX0_passOn cX0_passOn 3 none 4 0 := fun h1 h2 h3 => cwV 0 h1 (lw_V q120 q122 qs3 q28 q123) rfl rfl rfl (by decide +kernel) ⟨h2, h3⟩
theorem vLX0_patch : tz_V "TrapProverLaw" IX0 18 yX0_patch cX0_patch 4 (some .int) 1 2 := fun h1 h2 h3 => cwV 2 h1 (lw_V q92 q93 q94 q28 q95) rfl rfl rfl (by decide +kernel) ⟨h2, h3⟩
theorem vLX0_possible : tz_V "TrapProverLaw" IX0 36 yX0_possible cX0_possible 4 (some .boolean) 8 3 := fun h1 h2 h3 => cwV 3 h1 (lw_V q183 q184 q185 q28 q186) rfl rfl rfl (by decide +kernel) ⟨h2, h3⟩
theorem vX0_prepare : tz_V "TrapProver" IX0 120 yX0_prepare cX0_prepare 4 none 7 0 := fun h1 h2 h3 => cwV 0 h1 (lw_V q112 q114 qs1 q28 q115) rfl rfl rfl (by decide +kernel) ⟨h2, h3⟩
theorem vX0_prune : tz_V "TrapProver" IX0 117 yX0_prune cX0_prune 7 (some .boolean) 5 1 := fun h1 h2 h3 => cwV 1 h1 (lw_V q168 q170 qs14 q28 q171) rfl rfl rfl (by decide +kernel) ⟨h2, h3⟩
theorem vLX0_safe : tz_V "TrapProverLaw" IX0 49 yX0_safe cX0_safe 3 (some .boolean) 8 0 := fun h1 h2 h3 => cwV 0 h1 (lw_V q199 q200 q201 q28 q202) rfl rfl rfl (by decide +kernel) ⟨h2, h3⟩
theorem vX0_send : tz_V "TrapProver" IX0 96 yX0_send cX0_send 6 none 1 2 := fun h1 h2 h3 => cwV 2 h1 (lw_V q160 q162 qs12 q28 q163) rfl rfl rfl (by decide +kernel) ⟨h2, h3⟩
theorem vX0_setRow : tz_V "TrapProver" IX0 62 yX0_setRow cX0_setRow 4 none 0 3 := fun h1 h2 h3 => cwV 3 h1 (lw_V q132 q134 qs6 q28 q135) rfl rfl rfl (by decide +kernel) ⟨h2, h3⟩
theorem vX0_settle : tz_V "TrapProver" IX0 100 yX0_settle cX0_settle 4 (some .boolean) 0 1 := fun h1 h2 h3 => cwV 1 h1 (lw_V q116 q118 qs2 q28 q119) rfl rfl rfl (by decide +kernel) ⟨h2, h3⟩
theorem vLX0_soonest : tz_V "TrapProverLaw" IX0 54 yX0_soonest cX0_soonest 2 (some .int) 8 1 := fun h1 h2 h3 => cwV 1 h1 (lw_V q203 q204 q205 q28 q206) rfl rfl rfl (by decide +kernel) ⟨h2, h3⟩
theorem vLX0_states : tz_V "TrapProverLaw" IX0 31 yX0_states cX0_states 4 (some .int) 8 1 := fun h1 h2 h3 => cwV 1 h1 (lw_V q108 q109 q110 q28 q111) rfl rfl rfl (by decide +kernel) ⟨h2, h3⟩
theorem vX0_takeFresh : tz_V "TrapProver" IX0 89 yX0_takeFresh cX0_takeFresh 4 (some .boolean) 0 1 := fun h1 h2 h3 => cwV 1 h1 (lw_V q124 q126 qs4 q28 q127) rfl rfl rfl (by decide +kernel) ⟨h2, h3⟩
theorem vX0_transfer : tz_V "TrapProver" IX0 92 yX0_transfer cX0_transfer 5 none 3 1 := fun h1 h2 h3 => cwV 1 h1 (lw_V q128 q130 qs5 q28 q131) rfl rfl rfl (by decide +kernel) ⟨h2, h3⟩
theorem vLX0_traps : tz_V "TrapProverLaw" IX0 45 yX0_traps cX0_traps 2 (some .int) 8 1 := fun h1 h2 h3 => cwV 1 h1 (lw_V q191 q192 q193 q28 q194) rfl rfl rfl (by decide +kernel) ⟨h2, h3⟩
theorem vX0_trapsAt : tz_V "TrapProver" IX0 126 yX0_trapsAt cX0_trapsAt 4 (some .int) 4 1 := fun h1 h2 h3 => cwV 1 h1 (lw_V q195 q197 qs17 q28 q198) rfl rfl rfl (by decide +kernel) ⟨h2, h3⟩
theorem vLX0_values : tz_V "TrapProverLaw" IX0 41 yX0_values cX0_values 6 (some .int) 8 2 := fun h1 h2 h3 => cwV 2 h1 (lw_V q187 q188 q189 q28 q190) rfl rfl rfl (by decide +kernel) ⟨h2, h3⟩
theorem vX1_after : tz_V "TrapProverModel" IX1 56 yX1_after cX1_after 10 (some .int) 1 4 := fun h1 h2 h3 => cwV 4 h1 (lw_V q306 q308 qs23 q29 q309) rfl rfl rfl (by decide +kernel) ⟨h2, h3⟩
theorem vX1_bad : tz_V "TrapProverModel" IX1 48 yX1_bad cX1_bad 2 (some .boolean) 0 1 := fun h1 h2 h3 => cwV 1 h1 (lw_V q274 q276 qs18 q29 q277) rfl rfl rfl (by decide +kernel) ⟨h2, h3⟩
theorem vLX1_begin : tz_V "TrapProverLaw" IX1 26 yX1_begin cX1_begin 4 (some .int) 0 3 := fun h1 h2 h3 => cwV 3 h1 (lw_V q278 q279 q280 q29 q281) rfl rfl rfl (by decide +kernel) ⟨h2, h3⟩
theorem vLX1_canEnd : tz_V "TrapProverLaw" IX1 61 yX1_canEnd cX1_canEnd 1 (some .boolean) 5 0 := fun h1 h2 h3 => cwV 0 h1 (lw_V q342 q343 q344 q29 q345) rfl rfl rfl (by decide +kernel) ⟨h2, h3⟩
theorem vLX1_canRunForever : tz_V "TrapProverLaw" IX1 65 yX1_canRunForever cX1_canRunForever 1 (some .boolean) 6 0 := fun h1 h2 h3 => cwV 0 h1 (lw_V q346 q347 q348 q29 q349) rfl rfl rfl (by decide +kernel) ⟨h2, h3⟩
theorem vLX1_clear : tz_V "TrapProverLaw" IX1 30 yX1_clear cX1_clear 1 none 0 0 := fun h1 h2 h3 => cwV 0 h1 (lw_V q282 q283 q284 q29 q285) rfl rfl rfl (by decide +kernel) ⟨h2, h3⟩
theorem vX1_count : tz_V "TrapProverModel" IX1 79 yX1_count cX1_count 4 (some .int) 0 1 := fun h1 h2 h3 => cwV 1 h1 (lw_V q318 q320 qs26 q29 q321) rfl rfl rfl (by decide +kernel) ⟨h2, h3⟩
theorem vLX1_emit : tz_V "TrapProverLaw" IX1 17 yX1_emit cX1_emit 3 (some .int) 0 2 := fun h1 h2 h3 => cwV 2 h1 (lw_V q266 q267 q268 q29 q269) rfl rfl rfl (by decide +kernel) ⟨h2, h3⟩
theorem vX1_endless : tz_V "TrapProverModel" IX1 82 yX1_endless cX1_endless 4 (some .int) 5 0 := fun h1 h2 h3 => cwV 0 h1 (lw_V q350 q351 q352 q29 q353) rfl rfl rfl (by decide +kernel) ⟨h2, h3⟩
theorem vLX1_endless : tz_V "TrapProverLaw" IX1 70 yX1_endless cX1_endless 4 (some .int) 5 0 := fun h1 h2 h3 => cwV 0 h1 (lw_V q354 q351 q352 q29 q353) rfl rfl rfl (by decide +kernel) ⟨h2, h3⟩
theorem vX1_goOn : tz_V "TrapProverModel" IX1 52 yX1_goOn cX1_goOn 7 none 2 3 := fun h1 h2 h3 => cwV 3 h1 (lw_V q302 q304 qs22 q29 q305) rfl rfl rfl (by decide +kernel) ⟨h2, h3⟩
theorem vX1_goOnForEver : tz_V "TrapProverModel" IX1 69 yX1_goOnForEver cX1_goOnForEver 5 none 3 0 := fun h1 h2 h3 => cwV 0 h1 (lw_V q310 q312 qs24 q29 q313) rfl rfl rfl (by decide +kernel) ⟨h2, h3⟩
theorem vX1_kept : tz_V "TrapProverModel" IX1 72 yX1_kept cX1_kept 6 (some .int) 2 1 := fun h1 h2 h3 => cwV 1 h1 (lw_V q314 q316 qs25 q29 q317) rfl rfl rfl (by decide +kernel) ⟨h2, h3⟩
theorem vLX1_patch : tz_V "TrapProverLaw" IX1 21 yX1_patch cX1_patch 4 (some .int) 1 2 := fun h1 h2 h3 => cwV 2 h1 (lw_V q270 q271 q272 q29 q273) rfl rfl rfl (by decide +kernel) ⟨h2, h3⟩
theorem vLX1_possible : tz_V "TrapProverLaw" IX1 40 yX1_possible cX1_possible 4 (some .boolean) 5 3 := fun h1 h2 h3 => cwV 3 h1 (lw_V q322 q323 q324 q29 q325) rfl rfl rfl (by decide +kernel) ⟨h2, h3⟩
theorem vX1_round : tz_V "TrapProverModel" IX1 66 yX1_round cX1_round 3 none 3 0 := fun h1 h2 h3 => cwV 0 h1 (lw_V q298 q300 qs21 q29 q301) rfl rfl rfl (by decide +kernel) ⟨h2, h3⟩
theorem vLX1_safe : tz_V "TrapProverLaw" IX1 53 yX1_safe cX1_safe 2 (some .boolean) 5 0 := fun h1 h2 h3 => cwV 0 h1 (lw_V q334 q335 q336 q29 q337) rfl rfl rfl (by decide +kernel) ⟨h2, h3⟩
theorem vLX1_soonest : tz_V "TrapProverLaw" IX1 57 yX1_soonest cX1_soonest 2 (some .int) 5 1 := fun h1 h2 h3 => cwV 1 h1 (lw_V q338 q339 q340 q29 q341) rfl rfl rfl (by decide +kernel) ⟨h2, h3⟩
theorem vLX1_states : tz_V "TrapProverLaw" IX1 35 yX1_states cX1_states 5 (some .int) 5 1 := fun h1 h2 h3 => cwV 1 h1 (lw_V q286 q287 q288 q29 q289) rfl rfl rfl (by decide +kernel) ⟨h2, h3⟩
theorem vX1_take : tz_V "TrapProverModel" IX1 63 yX1_take cX1_take 4 (some .boolean) 0 1 := fun h1 h2 h3 => cwV 1 h1 (lw_V q294 q296 qs20 q29 q297) rfl rfl rfl (by decide +kernel) ⟨h2, h3⟩
theorem vLX1_traps : tz_V "TrapProverLaw" IX1 48 yX1_traps cX1_traps 2 (some .int) 5 1 := fun h1 h2 h3 => cwV 1 h1 (lw_V q330 q331 q332 q29 q333) rfl rfl rfl (by decide +kernel) ⟨h2, h3⟩
theorem vLX1_values : tz_V "TrapProverLaw" IX1 44 yX1_values cX1_values 6 (some .int) 5 2 := fun h1 h2 h3 => cwV 2 h1 (lw_V q326 q327 q328 q29 q329) rfl rfl rfl (by decide +kernel) ⟨h2, h3⟩
theorem vX1_workOut : tz_V "TrapProverModel" IX1 76 yX1_workOut cX1_workOut 3 none 4 0 := fun h1 h2 h3 => cwV 0 h1 (lw_V q290 q292 qs19 q29 q293) rfl rfl rfl (by decide +kernel) ⟨h2, h3⟩
end
section
/-! more rows of the Z-kit -/
section
variable {I : tz_I} {E : tz_E} {cc : ByteArray} {k pc : Nat} {lv : List (Option Value)} {st : List Value} {a : tz_S}
theorem tz_tsw (C : tz_C I E cc k) {dflt lo hi : Int} {offs : Array Int} {len : Nat} {x : Int32} {off : Int} {tgt : Nat} (d : decode cc pc = .ok (.tableswitch dflt lo hi offs, len)) (h1 : ¬ x.toInt < lo) (h2 : ¬ hi < x.toInt) (ho : offs[(x.toInt - lo).toNat]? = some off) (ht : (pc : Int) + off = (tgt : Int)) (K : tz_Z I E tgt lv st a) : tz_Z I E pc lv (.int x :: st) a := fun H locs ls hP hD hS hl => lv_tableIn C.1 C.2.1 d h1 h2 ho ht (K H locs ls hP hD hS hl)
theorem tz_tsd (C : tz_C I E cc k) {dflt lo hi : Int} {offs : Array Int} {len : Nat} {x : Int32} {tgt : Nat} (d : decode cc pc = .ok (.tableswitch dflt lo hi offs, len)) (h : x.toInt < lo ∨ hi < x.toInt) (ht : (pc : Int) + dflt = (tgt : Int)) (K : tz_Z I E tgt lv st a) : tz_Z I E pc lv (.int x :: st) a := fun H locs ls hP hD hS hl => lv_tableOut C.1 C.2.1 d h ht (K H locs ls hP hD hS hl)
end
theorem tz_upto {P : Nat → Prop} (n : Nat) (h : ∀ y, y ≤ n → (y < n → P (y + 1)) → P y) : ∀ y, y ≤ n → P y := by
  intro y hy
  have key : ∀ m y, y + m = n → P y := by
    intro m
    induction m with
    | zero => intro y hy; exact h y (by omega) (fun q => absurd q (by omega))
    | succ m ih => intro y hy; exact h y (by omega) (fun _ => ih (y + 1) (by omega))
  exact key (n - y) y (by omega)
theorem tz_sw_at (a : tz_S) (k j : Nat) (v : Int32) (j' : Nat) : tz_sw a k j v k j' = if j' = j then v else a k j' := by rw [tz_sw_k]; rfl
theorem tz_orv (a : tz_S) (k j : Nat) (v : Int32) (x' y' : Nat) : tp_bt (tz_sw a k j (a k j ||| v) k x') y' = true ↔ tp_bt (a k x') y' = true ∨ (x' = j ∧ tp_bt v y' = true) := by
  rw [tz_sw_at]
  by_cases h : x' = j
  · subst h; simp [tp_bt_or]
  · simp [h]
theorem tz_or1 (a : tz_S) (k j : Nat) {l : Nat} (hl : l < 16) (x' y' : Nat) : tp_bt (tz_sw a k j (a k j ||| nI 1 <<< (nI l &&& 31)) k x') y' = true ↔ tp_bt (a k x') y' = true ∨ (x' = j ∧ y' = l) := by
  rw [tz_orv, tp_bt_shl1 hl]; simp
theorem tz_setv (a : tz_S) (k j : Nat) (v : Int32) (h0 : a k j = 0) (x' y' : Nat) : tp_bt (tz_sw a k j v k x') y' = true ↔ tp_bt (a k x') y' = true ∨ (x' = j ∧ tp_bt v y' = true) := by
  rw [tz_sw_at]
  by_cases h : x' = j
  · subst h; simp [h0, tp_bt_zero]
  · simp [h]
theorem tp_above32 : ∀ x, x < 16 → ∀ y, y < 32 → tp_bt (65535 &&& (((nI 2 <<< (nI x &&& 31)) - nI 1) ^^^ (-1))) y = decide (x < y ∧ y < 16) := by decide +kernel
theorem tp_shr_n (v : Int32) {y : Nat} (hy : y < 16) : (v >>> (nI y &&& 31)) &&& nI 1 = nI (if tp_bt v y then 1 else 0) := by
  rw [tp_shr v hy]; cases tp_bt v y <;> rfl
/-! ONE STEP of the machine that is proved about: the program P = (length, ops, args, lows, highs) -/
abbrev tp_P : Type := Nat × (Nat → Nat) × (Nat → Int32) × (Nat → Nat) × (Nat → Nat)
def tp_tr (o : Nat) (c : Int32) (x y : Nat) : Prop := (o = 6 ∧ y = 0) ∨ (o = 8 ∧ tp_l5 c ≤ x)
def tp_tk (o x y : Nat) : Prop := o = 10 ∨ (o = 11 ∧ x = y) ∨ (o = 12 ∧ x < y) ∨ (o = 13 ∧ x = 0)
def tp_rx (o : Nat) (c : Int32) (x y : Nat) : Int32 := if o = 0 then c else if o = 2 then nI x + c else if o = 3 then nI (x + y) else if o = 4 then nI x - nI y else if o = 5 then nI (x * y) else if o = 6 then nI (x / y) else if o = 7 then nI y else nI x
def tp_ry (o : Nat) (c : Int32) (x y v : Nat) : Int32 := if o = 1 then c else if o = 7 then nI x else if o = 9 then nI v else nI y
/-- (x, y) goes on to (x', y') -/
def tp_mv (o : Nat) (c : Int32) (x y x' y' : Nat) : Prop := o ≠ 14 ∧ ¬ tp_tr o c x y ∧ x' = tp_lo (tp_rx o c x y) ∧ ∃ v, v < 16 ∧ (v = 0 ∨ o = 9) ∧ y' = tp_lo (tp_ry o c x y v)
theorem tp_mv_det {o : Nat} (h : o ≠ 9) (c : Int32) (x y x' y' : Nat) : tp_mv o c x y x' y' ↔ o ≠ 14 ∧ ¬ tp_tr o c x y ∧ x' = tp_lo (tp_rx o c x y) ∧ y' = tp_lo (tp_ry o c x y 0) := by
  constructor
  · rintro ⟨h1, h2, h3, v, h4, h5, h6⟩
    rcases h5 with rfl | h5
    · exact ⟨h1, h2, h3, h6⟩
    · exact absurd h5 h
  · rintro ⟨h1, h2, h3, h4⟩
    exact ⟨h1, h2, h3, 0, by decide, Or.inl rfl, h4⟩
theorem tp_mv_lt {o : Nat} {c : Int32} {x y x' y' : Nat} (h : tp_mv o c x y x' y') : x' < 16 ∧ y' < 16 := by
  obtain ⟨-, -, h3, v, -, -, h6⟩ := h
  exact ⟨h3 ▸ tp_lo_lt _, h6 ▸ tp_lo_lt _⟩
theorem tp_mv_ex {o : Nat} {c : Int32} {x y : Nat} (h1 : o ≠ 14) (h2 : ¬ tp_tr o c x y) : ∃ x' y', tp_mv o c x y x' y' := ⟨_, _, h1, h2, rfl, 0, by decide, Or.inl rfl, rfl⟩
/-- what comes of one row of pairs -/
def tp_Row (o : Nat) (c : Int32) (x : Nat) (a u : tz_S) : Prop :=
  (∀ k, k ≠ 13 → k ≠ 14 → k ≠ 15 → u k = a k) ∧
  (∀ x', x' < 16 → ∀ y', tp_bt (u 13 x') y' = true ↔ tp_bt (a 13 x') y' = true ∨ ∃ y, tp_bt (a 12 x) y = true ∧ tp_mv o c x y x' y' ∧ ¬ tp_tk o x y) ∧
  (∀ x', x' < 16 → ∀ y', tp_bt (u 14 x') y' = true ↔ tp_bt (a 14 x') y' = true ∨ ∃ y, tp_bt (a 12 x) y = true ∧ tp_mv o c x y x' y' ∧ tp_tk o x y) ∧
  (∀ x', x' < 16 → ∀ y', tp_bt (u 15 x') y' = true ↔ tp_bt (a 15 x') y' = true ∨ (x' = x ∧ tp_bt (a 12 x) y' = true ∧ tp_tr o c x y'))
theorem tp_row0 {x : Nat} {c : Int32} {a : tz_S} (hw : tp_wf (a 12 x)) : tp_Row 0 c x a (tz_sw a 13 (tp_lo c) (a 13 (tp_lo c) ||| a 12 x)) := by
  refine ⟨fun k h1 h2 h3 => tz_sw_o _ _ _ h1, fun x' hx' y' => ?_, fun x' hx' y' => ?_, fun x' hx' y' => ?_⟩
  · rw [tz_orv]
    refine or_congr Iff.rfl ⟨fun ⟨h1, h2⟩ => ⟨y', h2, ?_, by simp [tp_tk]⟩, fun ⟨y, h1, h2, h3⟩ => ?_⟩
    · rw [tp_mv_det (by decide)]; simp [tp_tr, tp_rx, tp_ry, tp_lo_nI (hw y' h2), h1]
    · rw [tp_mv_det (by decide)] at h2
      simp [tp_tr, tp_rx, tp_ry, tp_lo_nI (hw y h1)] at h2
      obtain ⟨h2, rfl⟩ := h2
      exact ⟨h2, h1⟩
  · rw [tz_sw_o _ _ _ (by decide)]; simp [tp_tk]
  · rw [tz_sw_o _ _ _ (by decide)]; simp [tp_tr]
theorem tp_row1 {x : Nat} {c : Int32} {a : tz_S} (hx : x < 16) (hn : ¬ a 12 x = 0) : tp_Row 1 c x a (tz_sw a 13 x (a 13 x ||| nI 1 <<< (nI (tp_lo c) &&& 31))) := by
  refine ⟨fun k h1 h2 h3 => tz_sw_o _ _ _ h1, fun x' hx' y' => ?_, fun x' hx' y' => ?_, fun x' hx' y' => ?_⟩
  · rw [tz_or1 _ _ _ (tp_lo_lt c)]
    refine or_congr Iff.rfl ⟨fun ⟨h1, h2⟩ => ?_, fun ⟨y, h1, h2, h3⟩ => ?_⟩
    · obtain ⟨y, hy⟩ := tp_ne0.mp hn
      refine ⟨y, hy, ?_, by simp [tp_tk]⟩
      rw [tp_mv_det (by decide)]; simp [tp_tr, tp_rx, tp_ry, tp_lo_nI hx, h1, h2]
    · rw [tp_mv_det (by decide)] at h2
      simpa [tp_tr, tp_rx, tp_ry, tp_lo_nI hx] using h2
  · rw [tz_sw_o _ _ _ (by decide)]; simp [tp_tk]
  · rw [tz_sw_o _ _ _ (by decide)]; simp [tp_tr]
theorem tp_row2 {x : Nat} {c : Int32} {a : tz_S} (hw : tp_wf (a 12 x)) : tp_Row 2 c x a (tz_sw a 13 (tp_lo (nI x + c)) (a 13 (tp_lo (nI x + c)) ||| a 12 x)) := by
  refine ⟨fun k h1 h2 h3 => tz_sw_o _ _ _ h1, fun x' hx' y' => ?_, fun x' hx' y' => ?_, fun x' hx' y' => ?_⟩
  · rw [tz_orv]
    refine or_congr Iff.rfl ⟨fun ⟨h1, h2⟩ => ⟨y', h2, ?_, by simp [tp_tk]⟩, fun ⟨y, h1, h2, h3⟩ => ?_⟩
    · rw [tp_mv_det (by decide)]; simp [tp_tr, tp_rx, tp_ry, tp_lo_nI (hw y' h2), h1]
    · rw [tp_mv_det (by decide)] at h2
      simp [tp_tr, tp_rx, tp_ry, tp_lo_nI (hw y h1)] at h2
      obtain ⟨h2, rfl⟩ := h2
      exact ⟨h2, h1⟩
  · rw [tz_sw_o _ _ _ (by decide)]; simp [tp_tk]
  · rw [tz_sw_o _ _ _ (by decide)]; simp [tp_tr]
theorem tp_row8a {x : Nat} {c : Int32} {a : tz_S} (h : tp_l5 c ≤ x) (h0 : a 15 x = 0) : tp_Row 8 c x a (tz_sw a 15 x (a 12 x)) := by
  refine ⟨fun k h1 h2 h3 => tz_sw_o _ _ _ h3, fun x' hx' y' => ?_, fun x' hx' y' => ?_, fun x' hx' y' => ?_⟩
  · rw [tz_sw_o _ _ _ (by decide)]; simp [tp_mv, tp_tr, h]
  · rw [tz_sw_o _ _ _ (by decide)]; simp [tp_tk]
  · rw [tz_setv _ _ _ _ h0]; simp [tp_tr, h]
theorem tp_row8b {x : Nat} {c : Int32} {a : tz_S} (hx : x < 16) (hw : tp_wf (a 12 x)) (h : ¬ tp_l5 c ≤ x) (h0 : a 13 x = 0) : tp_Row 8 c x a (tz_sw a 13 x (a 12 x)) := by
  refine ⟨fun k h1 h2 h3 => tz_sw_o _ _ _ h1, fun x' hx' y' => ?_, fun x' hx' y' => ?_, fun x' hx' y' => ?_⟩
  · rw [tz_setv _ _ _ _ h0]
    refine or_congr Iff.rfl ⟨fun ⟨h1, h2⟩ => ⟨y', h2, ?_, by simp [tp_tk]⟩, fun ⟨y, h1, h2, h3⟩ => ?_⟩
    · rw [tp_mv_det (by decide)]; simp [tp_tr, tp_rx, tp_ry, tp_lo_nI (hw y' h2), tp_lo_nI hx, h1, h]
    · rw [tp_mv_det (by decide)] at h2
      simp [tp_tr, tp_rx, tp_ry, tp_lo_nI (hw y h1), tp_lo_nI hx, h] at h2
      obtain ⟨h2, rfl⟩ := h2
      exact ⟨h2, h1⟩
  · rw [tz_sw_o _ _ _ (by decide)]; simp [tp_tk]
  · rw [tz_sw_o _ _ _ (by decide)]; simp [tp_tr, h]
theorem tp_row9 {x : Nat} {c : Int32} {a : tz_S} (hx : x < 16) (hn : ¬ a 12 x = 0) (h0 : a 13 x = 0) : tp_Row 9 c x a (tz_sw a 13 x 65535) := by
  refine ⟨fun k h1 h2 h3 => tz_sw_o _ _ _ h1, fun x' hx' y' => ?_, fun x' hx' y' => ?_, fun x' hx' y' => ?_⟩
  · rw [tz_setv _ _ _ _ h0, tp_bt_whole]
    refine or_congr Iff.rfl ⟨fun ⟨h1, h2⟩ => ?_, fun ⟨y, h1, h2, h3⟩ => ?_⟩
    · obtain ⟨y, hy⟩ := tp_ne0.mp hn
      have h2 : y' < 16 := by simpa using h2
      refine ⟨y, hy, ⟨by decide, by simp [tp_tr], by simp [tp_rx, tp_lo_nI hx, h1], y', h2, Or.inr rfl, by simp [tp_ry, tp_lo_nI h2]⟩, by simp [tp_tk]⟩
    · obtain ⟨-, -, g1, v, g2, -, g3⟩ := h2
      simp [tp_rx, tp_lo_nI hx] at g1
      simp [tp_ry, tp_lo_nI g2] at g3
      exact ⟨g1, by rw [g3]; simpa using g2⟩
  · rw [tz_sw_o _ _ _ (by decide)]; simp [tp_tk]
  · rw [tz_sw_o _ _ _ (by decide)]; simp [tp_tr]
theorem tp_row14 {x : Nat} {c : Int32} {a : tz_S} : tp_Row 14 c x a a :=
  ⟨fun _ _ _ _ => rfl, fun x' hx' y' => by simp [tp_mv], fun x' hx' y' => by simp [tp_mv], fun x' hx' y' => by simp [tp_tr]⟩
/-- a branch: t holds the y that are taken -/
theorem tp_rowB {o x : Nat} {c t : Int32} {a : tz_S} (ho : 10 ≤ o ∧ o ≤ 13) (hx : x < 16) (hw : tp_wf (a 12 x)) (ht : ∀ y, y < 16 → (tp_bt t y = true ↔ tp_tk o x y)) (h0 : a 13 x = 0) (h1 : a 14 x = 0) : tp_Row o c x a (tz_sw (tz_sw a 14 x (a 12 x &&& t)) 13 x (a 12 x &&& (t ^^^ (-1)))) := by
  have hm : ∀ y x' y', y < 16 → (tp_mv o c x y x' y' ↔ x' = x ∧ y' = y) := fun y x' y' hy => by
    have h2 : ¬ tp_tr o c x y := by simp [tp_tr]; omega
    have h3 : tp_rx o c x y = nI x := by unfold tp_rx; rw [if_neg (by omega), if_neg (by omega), if_neg (by omega), if_neg (by omega), if_neg (by omega), if_neg (by omega), if_neg (by omega)]
    have h4 : tp_ry o c x y 0 = nI y := by unfold tp_ry; rw [if_neg (by omega), if_neg (by omega), if_neg (by omega)]
    rw [tp_mv_det (by omega), h3, h4, tp_lo_nI hx, tp_lo_nI hy]
    have h5 : o ≠ 14 := by omega
    simp [h2, h5]
  refine ⟨fun k h1 h2 h3 => by rw [tz_sw_o _ _ _ h1, tz_sw_o _ _ _ h2], fun x' hx' y' => ?_, fun x' hx' y' => ?_, fun x' hx' y' => ?_⟩
  · rw [tz_setv _ _ _ _ (by rw [tz_sw_o _ _ _ (by decide)]; exact h0), tz_sw_o _ _ _ (by decide)]
    refine or_congr Iff.rfl ⟨fun ⟨g1, g2⟩ => ?_, fun ⟨y, g1, g2, g3⟩ => ?_⟩
    · rw [tp_bt_and, tp_bt_not] at g2
      simp at g2
      have hy := hw y' g2.1
      refine ⟨y', g2.1, (hm y' x' y' hy).mpr ⟨g1, rfl⟩, fun q => ?_⟩
      rw [(ht y' hy).mpr q] at g2; simp at g2
    · have hy := hw y g1
      obtain ⟨rfl, rfl⟩ := (hm y x' y' hy).mp g2
      refine ⟨rfl, ?_⟩
      rw [tp_bt_and, tp_bt_not, g1]
      have : y' < 32 := by omega
      have g4 : ¬ tp_bt t y' = true := fun q => g3 ((ht y' hy).mp q)
      simp [this, g4]
  · rw [tz_sw_o _ _ _ (by decide), tz_setv _ _ _ _ h1]
    refine or_congr Iff.rfl ⟨fun ⟨g1, g2⟩ => ?_, fun ⟨y, g1, g2, g3⟩ => ?_⟩
    · rw [tp_bt_and] at g2
      simp at g2
      have hy := hw y' g2.1
      exact ⟨y', g2.1, (hm y' x' y' hy).mpr ⟨g1, rfl⟩, (ht y' hy).mp g2.2⟩
    · have hy := hw y g1
      obtain ⟨rfl, rfl⟩ := (hm y x' y' hy).mp g2
      refine ⟨rfl, ?_⟩
      rw [tp_bt_and, g1, (ht y' hy).mpr g3]; rfl
  · rw [tz_sw_o _ _ _ (by decide), tz_sw_o _ _ _ (by decide)]
    have h2 : ∀ y', ¬ tp_tr o c x y' := fun y' => by simp [tp_tr]; omega
    simp [h2]
/-- one pair -/
def tp_Pair (o : Nat) (c : Int32) (x y : Nat) (a u : tz_S) : Prop :=
  (∀ k, k ≠ 13 → k ≠ 15 → u k = a k) ∧ (∀ x', x' < 16 → ∀ y', tp_bt (u 13 x') y' = true ↔ tp_bt (a 13 x') y' = true ∨ tp_mv o c x y x' y') ∧ ∀ x', x' < 16 → ∀ y', tp_bt (u 15 x') y' = true ↔ tp_bt (a 15 x') y' = true ∨ (x' = x ∧ y' = y ∧ tp_tr o c x y)
theorem tp_pairN {o x y : Nat} {c : Int32} {a : tz_S} (ho : 3 ≤ o ∧ o ≤ 7) (ht : ¬ (o = 6 ∧ y = 0)) : tp_Pair o c x y a (tz_sw a 13 (tp_lo (tp_rx o c x y)) (a 13 (tp_lo (tp_rx o c x y)) ||| nI 1 <<< (nI (tp_lo (tp_ry o c x y 0)) &&& 31))) := by
  have h2 : ¬ tp_tr o c x y := by unfold tp_tr; omega
  have h3 : o ≠ 14 := by omega
  refine ⟨fun k h1 h2 => tz_sw_o _ _ _ h1, fun x' hx' y' => ?_, fun x' hx' y' => ?_⟩
  · rw [tz_or1 _ _ _ (tp_lo_lt _), tp_mv_det (by omega)]; simp [h2, h3]
  · rw [tz_sw_o _ _ _ (by decide)]; simp [h2]
theorem tp_pairT {x : Nat} {c : Int32} {a : tz_S} : tp_Pair 6 c x 0 a (tz_sw a 15 x (a 15 x ||| nI 1)) := by
  refine ⟨fun k h1 h2 => tz_sw_o _ _ _ h2, fun x' hx' y' => ?_, fun x' hx' y' => ?_⟩
  · rw [tz_sw_o _ _ _ (by decide)]; simp [tp_mv, tp_tr]
  · rw [tz_orv, tp_bt_n1]; simp [tp_tr]
end
section
/-! the whole step: rows of all x, and from one instruction to the next -/
theorem tz_sw_ap (a : tz_S) (k j : Nat) (v : Int32) (k' j' : Nat) : tz_sw a k j v k' j' = if k' = k ∧ j' = j then v else a k' j' := by
  by_cases h : k' = k
  · subst h; rw [tz_sw_at]; simp
  · rw [tz_sw_o _ _ _ h]; simp [h]
def tp_TrN (n o : Nat) (c : Int32) (a u : tz_S) : Prop :=
  (∀ k, k ≠ 13 → k ≠ 14 → k ≠ 15 → u k = a k) ∧
  (∀ x', x' < 16 → ∀ y', tp_bt (u 13 x') y' = true ↔ ∃ x y, x < n ∧ tp_bt (a 12 x) y = true ∧ tp_mv o c x y x' y' ∧ ¬ tp_tk o x y) ∧
  (∀ x', x' < 16 → ∀ y', tp_bt (u 14 x') y' = true ↔ ∃ x y, x < n ∧ tp_bt (a 12 x) y = true ∧ tp_mv o c x y x' y' ∧ tp_tk o x y) ∧
  (∀ x', x' < 16 → ∀ y', tp_bt (u 15 x') y' = true ↔ x' < n ∧ tp_bt (a 12 x') y' = true ∧ tp_tr o c x' y')
theorem tp_TrN_row {n o : Nat} {c : Int32} {a u w : tz_S} (h : tp_TrN n o c a u) (r : tp_Row o c n u w) : tp_TrN (n + 1) o c a w := by
  obtain ⟨h1, h2, h3, h4⟩ := h
  obtain ⟨r1, r2, r3, r4⟩ := r
  have h12 : u 12 = a 12 := h1 12 (by decide) (by decide) (by decide)
  rw [h12] at r2 r3 r4
  refine ⟨fun k q1 q2 q3 => (r1 k q1 q2 q3).trans (h1 k q1 q2 q3), fun x' hx' y' => ?_, fun x' hx' y' => ?_, fun x' hx' y' => ?_⟩
  · rw [r2 x' hx' y', h2 x' hx' y']
    constructor
    · rintro (⟨x, y, q, g⟩ | ⟨y, g⟩)
      · exact ⟨x, y, by omega, g⟩
      · exact ⟨n, y, by omega, g⟩
    · rintro ⟨x, y, q, g⟩
      rcases Nat.lt_or_ge x n with q1 | q1
      · exact Or.inl ⟨x, y, q1, g⟩
      · have : x = n := by omega
        subst this
        exact Or.inr ⟨y, g⟩
  · rw [r3 x' hx' y', h3 x' hx' y']
    constructor
    · rintro (⟨x, y, q, g⟩ | ⟨y, g⟩)
      · exact ⟨x, y, by omega, g⟩
      · exact ⟨n, y, by omega, g⟩
    · rintro ⟨x, y, q, g⟩
      rcases Nat.lt_or_ge x n with q1 | q1
      · exact Or.inl ⟨x, y, q1, g⟩
      · have : x = n := by omega
        subst this
        exact Or.inr ⟨y, g⟩
  · rw [r4 x' hx' y', h4 x' hx' y']
    constructor
    · rintro (⟨q, g⟩ | ⟨rfl, g⟩)
      · exact ⟨by omega, g⟩
      · exact ⟨by omega, g⟩
    · rintro ⟨q, g⟩
      rcases Nat.lt_or_ge x' n with q1 | q1
      · exact Or.inl ⟨q1, g⟩
      · have : x' = n := by omega
        subst this
        exact Or.inr ⟨rfl, g⟩
theorem tp_TrN_skip {n o : Nat} {c : Int32} {a u : tz_S} (h : tp_TrN n o c a u) (h0 : a 12 n = 0) : tp_TrN (n + 1) o c a u := by
  have hz : ∀ y, ¬ tp_bt (a 12 n) y = true := fun y => by rw [h0, tp_bt_zero]; simp
  obtain ⟨h1, h2, h3, h4⟩ := h
  refine ⟨h1, fun x' hx' y' => ?_, fun x' hx' y' => ?_, fun x' hx' y' => ?_⟩
  · rw [h2 x' hx' y']
    refine ⟨fun ⟨x, y, q, g⟩ => ⟨x, y, by omega, g⟩, fun ⟨x, y, q, g⟩ => ⟨x, y, ?_, g⟩⟩
    rcases Nat.lt_or_ge x n with q1 | q1
    · exact q1
    · exact absurd g.1 (by rw [show x = n by omega]; exact hz y)
  · rw [h3 x' hx' y']
    refine ⟨fun ⟨x, y, q, g⟩ => ⟨x, y, by omega, g⟩, fun ⟨x, y, q, g⟩ => ⟨x, y, ?_, g⟩⟩
    rcases Nat.lt_or_ge x n with q1 | q1
    · exact q1
    · exact absurd g.1 (by rw [show x = n by omega]; exact hz y)
  · rw [h4 x' hx' y']
    refine ⟨fun ⟨q, g⟩ => ⟨by omega, g⟩, fun ⟨q, g⟩ => ⟨?_, g⟩⟩
    rcases Nat.lt_or_ge x' n with q1 | q1
    · exact q1
    · exact absurd g.1 (by rw [show x' = n by omega]; exact hz y')
theorem tp_rx8 {o : Nat} (h : 8 ≤ o) (c : Int32) (x y : Nat) : tp_rx o c x y = nI x := by
  unfold tp_rx; rw [if_neg (by omega), if_neg (by omega), if_neg (by omega), if_neg (by omega), if_neg (by omega), if_neg (by omega), if_neg (by omega)]
theorem tp_TrN_zero {n o : Nat} {c : Int32} {a u : tz_S} (h : tp_TrN n o c a u) (ho : 8 ≤ o) (hn : n < 16) : u 13 n = 0 ∧ u 14 n = 0 ∧ u 15 n = 0 := by
  obtain ⟨h1, h2, h3, h4⟩ := h
  have key : ∀ x y y', x < n → ¬ tp_mv o c x y n y' := fun x y y' hx g => by
    have := g.2.2.1
    rw [tp_rx8 ho, tp_lo_nI (by omega)] at this
    omega
  refine ⟨tp_eq0 fun y' q => ?_, tp_eq0 fun y' q => ?_, tp_eq0 fun y' q => ?_⟩
  · obtain ⟨x, y, g1, g2, g3, g4⟩ := (h2 n hn y').mp q
    exact key x y y' g1 g3
  · obtain ⟨x, y, g1, g2, g3, g4⟩ := (h3 n hn y').mp q
    exact key x y y' g1 g3
  · exact absurd ((h4 n hn y').mp q).1 (Nat.lt_irrefl _)
theorem tp_or0 {a b : Int32} : a ||| b = 0 ↔ a = 0 ∧ b = 0 := by
  constructor
  · intro h
    have hy : ∀ y, tp_bt (a ||| b) y = false := fun y => by rw [h, tp_bt_zero]
    refine ⟨tp_eq0 fun y q => ?_, tp_eq0 fun y q => ?_⟩
    · have := hy y; rw [tp_bt_or, q] at this; simp at this
    · have := hy y; rw [tp_bt_or, q] at this; simp at this
  · rintro ⟨rfl, rfl⟩; rfl
/-- no instruction of that number -/
def tp_nw (L : Nat) (t : Int32) : Prop := t < 0 ∨ nI L ≤ t
theorem tp_nw_not {L : Nat} {t : Int32} (hL : L < 2 ^ 31) (h : ¬ tp_nw L t) : ∃ q, q < L ∧ t = nI q := by
  rcases pk_ix t hL with q | q | q
  · exact absurd (Or.inl q) h
  · exact absurd (Or.inr q) h
  · exact q
theorem tp_nw_nI {L q : Nat} (hL : L < 2 ^ 31) (hq : q < 2 ^ 31) : tp_nw L (nI q) ↔ L ≤ q := by
  unfold tp_nw
  constructor
  · rintro (h | h)
    · exact absurd h (nI_pos hq)
    · exact (nI_leI hL hq).mp h
  · intro h; exact Or.inr ((nI_leI hL hq).mpr h)
/-- a step from state (i / 16, i % 16, y) -/
def tp_stp (P : tp_P) (i y i' y' : Nat) : Prop := i / 16 < P.1 ∧ i' / 16 < P.1 ∧ tp_mv (P.2.1 (i / 16)) (P.2.2.1 (i / 16)) (i % 16) y (i' % 16) y' ∧ (tp_tk (P.2.1 (i / 16)) (i % 16) y → P.2.2.1 (i / 16) = nI (i' / 16)) ∧ (¬ tp_tk (P.2.1 (i / 16)) (i % 16) y → i' / 16 = i / 16 + 1)
/-- a step that ends the run -/
def tp_enp (P : tp_P) (i y : Nat) : Prop := i / 16 < P.1 ∧ (P.2.1 (i / 16) = 14 ∨ ((∃ x' y', tp_mv (P.2.1 (i / 16)) (P.2.2.1 (i / 16)) (i % 16) y x' y') ∧ (tp_tk (P.2.1 (i / 16)) (i % 16) y → tp_nw P.1 (P.2.2.1 (i / 16))) ∧ (¬ tp_tk (P.2.1 (i / 16)) (i % 16) y → P.1 ≤ i / 16 + 1)))
theorem tp_stp_lt {P : tp_P} {i y i' y' : Nat} (h : tp_stp P i y i' y') (hP : P.1 ≤ 16) : i' < 256 ∧ y' < 16 := ⟨by have := h.2.1; omega, (tp_mv_lt h.2.2.1).2⟩
theorem tp_passA {P : tp_P} {p i y : Nat} {g : Nat → Int32} {nx aw : Nat → Int32} (hP : P.1 ≤ 16) (hp : p < P.1)
    (hn : ∀ x', x' < 16 → ∀ y', tp_bt (nx x') y' = true ↔ ∃ x y, x < 16 ∧ tp_bt (g x) y = true ∧ tp_mv (P.2.1 p) (P.2.2.1 p) x y x' y' ∧ ¬ tp_tk (P.2.1 p) x y)
    (ha : ∀ x', x' < 16 → ∀ y', tp_bt (aw x') y' = true ↔ ∃ x y, x < 16 ∧ tp_bt (g x) y = true ∧ tp_mv (P.2.1 p) (P.2.2.1 p) x y x' y' ∧ tp_tk (P.2.1 p) x y) :
    ((nI (p + 1) = nI (i / 16) ∧ i / 16 < P.1 ∧ tp_bt (nx (i % 16)) y = true) ∨ (P.2.2.1 p = nI (i / 16) ∧ i / 16 < P.1 ∧ tp_bt (aw (i % 16)) y = true)) ↔ ∃ x y0, x < 16 ∧ tp_bt (g x) y0 = true ∧ tp_stp P (p * 16 + x) y0 i y := by
  have hi : i % 16 < 16 := Nat.mod_lt _ (by decide)
  rw [hn _ hi, ha _ hi]
  constructor
  · rintro (⟨h1, h2, x, y0, h3, h4, h5, h6⟩ | ⟨h1, h2, x, y0, h3, h4, h5, h6⟩)
    · obtain ⟨d1, d2⟩ := tp_dm (p := p) h3
      have h1 : p + 1 = i / 16 := (nI_eq (by omega) (by omega)).mp h1
      refine ⟨x, y0, h3, h4, ?_⟩
      unfold tp_stp
      rw [d1, d2]
      exact ⟨hp, h2, h5, fun q => absurd q h6, fun _ => h1.symm⟩
    · obtain ⟨d1, d2⟩ := tp_dm (p := p) h3
      refine ⟨x, y0, h3, h4, ?_⟩
      unfold tp_stp
      rw [d1, d2]
      exact ⟨hp, h2, h5, fun _ => h1, fun q => absurd h6 q⟩
  · rintro ⟨x, y0, h3, h4, h5⟩
    obtain ⟨d1, d2⟩ := tp_dm (p := p) h3
    unfold tp_stp at h5
    rw [d1, d2] at h5
    obtain ⟨g1, g2, g3, g4, g5⟩ := h5
    rcases Classical.em (tp_tk (P.2.1 p) x y0) with q | q
    · exact Or.inr ⟨g4 q, g2, x, y0, h3, h4, g3, q⟩
    · exact Or.inl ⟨by rw [g5 q], g2, x, y0, h3, h4, g3, q⟩
theorem tp_passB {P : tp_P} {p : Nat} {g : Nat → Int32} {nx aw : Nat → Int32} (hP : P.1 ≤ 16) (hp : p < P.1) (hg : ∃ x, x < 16 ∧ ¬ g x = 0)
    (hn : ∀ x', x' < 16 → ∀ y', tp_bt (nx x') y' = true ↔ ∃ x y, x < 16 ∧ tp_bt (g x) y = true ∧ tp_mv (P.2.1 p) (P.2.2.1 p) x y x' y' ∧ ¬ tp_tk (P.2.1 p) x y)
    (ha : ∀ x', x' < 16 → ∀ y', tp_bt (aw x') y' = true ↔ ∃ x y, x < 16 ∧ tp_bt (g x) y = true ∧ tp_mv (P.2.1 p) (P.2.2.1 p) x y x' y' ∧ tp_tk (P.2.1 p) x y) :
    ((tp_nw P.1 (nI (p + 1)) ∧ ∃ x, x < 16 ∧ ¬ nx x = 0) ∨ (tp_nw P.1 (P.2.2.1 p) ∧ ∃ x, x < 16 ∧ ¬ aw x = 0) ∨ P.2.1 p = 14) ↔ ∃ x y0, x < 16 ∧ tp_bt (g x) y0 = true ∧ tp_enp P (p * 16 + x) y0 := by
  constructor
  · rintro (⟨h1, x', h2, h3⟩ | ⟨h1, x', h2, h3⟩ | h1)
    · obtain ⟨y', h3⟩ := tp_ne0.mp h3
      obtain ⟨x, y0, g1, g2, g3, g4⟩ := (hn x' h2 y').mp h3
      obtain ⟨d1, d2⟩ := tp_dm (p := p) g1
      refine ⟨x, y0, g1, g2, ?_⟩
      unfold tp_enp
      rw [d1, d2]
      exact ⟨hp, Or.inr ⟨⟨_, _, g3⟩, fun q => absurd q g4, fun _ => (tp_nw_nI (by omega) (by omega)).mp h1⟩⟩
    · obtain ⟨y', h3⟩ := tp_ne0.mp h3
      obtain ⟨x, y0, g1, g2, g3, g4⟩ := (ha x' h2 y').mp h3
      obtain ⟨d1, d2⟩ := tp_dm (p := p) g1
      refine ⟨x, y0, g1, g2, ?_⟩
      unfold tp_enp
      rw [d1, d2]
      exact ⟨hp, Or.inr ⟨⟨_, _, g3⟩, fun _ => h1, fun q => absurd g4 q⟩⟩
    · obtain ⟨x, g1, g2⟩ := hg
      obtain ⟨y0, g2⟩ := tp_ne0.mp g2
      obtain ⟨d1, d2⟩ := tp_dm (p := p) g1
      refine ⟨x, y0, g1, g2, ?_⟩
      unfold tp_enp
      rw [d1, d2]
      exact ⟨hp, Or.inl h1⟩
  · rintro ⟨x, y0, g1, g2, g3⟩
    obtain ⟨d1, d2⟩ := tp_dm (p := p) g1
    unfold tp_enp at g3
    rw [d1, d2] at g3
    rcases g3 with ⟨-, g3 | ⟨⟨x', y', g3⟩, g4, g5⟩⟩
    · exact Or.inr (Or.inr g3)
    · have hx' := (tp_mv_lt g3).1
      rcases Classical.em (tp_tk (P.2.1 p) x y0) with q | q
      · exact Or.inr (Or.inl ⟨g4 q, x', hx', tp_ne0.mpr ⟨y', (ha x' hx' y').mpr ⟨x, y0, g1, g2, g3, q⟩⟩⟩)
      · exact Or.inl ⟨(tp_nw_nI (by omega) (by omega)).mpr (g5 q), x', hx', tp_ne0.mpr ⟨y', (hn x' hx' y').mpr ⟨x, y0, g1, g2, g3, q⟩⟩⟩
/-- the program in an object's fields -/
def tp_has (P : tp_P) (a : tz_S) : Prop := a 0 0 = nI P.1 ∧ (∀ p, a 1 p = nI (P.2.1 p)) ∧ (∀ p, a 2 p = P.2.2.1 p) ∧ (∀ r, a 3 r = nI (P.2.2.2.1 r)) ∧ ∀ r, a 4 r = nI (P.2.2.2.2 r)
def tp_okP (P : tp_P) : Prop := P.1 ≤ 16 ∧ (∀ p, P.2.1 p ≤ 14) ∧ ∀ r, P.2.2.2.1 r ≤ P.2.2.2.2 r ∧ P.2.2.2.2 r ≤ 15
theorem tp_has_kept {P : tp_P} {a u : tz_S} (h : tp_has P a) (hu : ∀ k, k ≤ 4 → u k = a k) : tp_has P u := by
  obtain ⟨h0, h1, h2, h3, h4⟩ := h
  exact ⟨by rw [hu 0 (by decide)]; exact h0, fun p => by rw [hu 1 (by decide)]; exact h1 p, fun p => by rw [hu 2 (by decide)]; exact h2 p, fun p => by rw [hu 3 (by decide)]; exact h3 p, fun p => by rw [hu 4 (by decide)]; exact h4 p⟩
end
section
/-! TrapProver: leaves, and what an instruction does to a set of pairs -/
set_option maxRecDepth 100000
theorem mX0_noInstruction (v : Int32) (a : tz_S) : tz_Mi IX0 yX0_noInstruction cX0_noInstruction 2 .boolean 0 [v] a (fun r u => u = a ∧ r = tp_bz (v < 0 ∨ a 0 0 ≤ v)) := by
  refine tz_enter (by decide) rfl (Nat.le_of_ble_eq_true rfl) (fun E C R => ?_)
  show tz_Z _ E 0 [some (.ref (tz_h E 0)), some (.int v)] [] _
  refine tz_iload_1 C dX0_noInstruction_0 ?_
  refine tz_if_lt (tgt := 12) C dX0_noInstruction_1 (by decide) (fun c1 => ?_) (fun c1 => ?_)
  · skip
    refine tz_iconst (v := nI 1) C dX0_noInstruction_12 (by decide) ?_
    refine tz_goto (tgt := 17) C dX0_noInstruction_13 (by decide) ?_
    exact R _ _ _ _ dX0_noInstruction_17 (by first | rfl | decide | exact tp_bz_nar _) (⟨rfl, (tp_bz_t (Or.inl c1)).symm⟩)
  · skip
    refine tz_iload_1 C dX0_noInstruction_4 ?_
    refine tz_aload_0 C dX0_noInstruction_5 ?_
    refine tz_getI okX0 C 0 dX0_noInstruction_6 rfl (by decide) q38 ?_
    refine tz_icmp_lt (tgt := 16) C dX0_noInstruction_9 (by decide) (fun c9 => ?_) (fun c9 => ?_)
    · skip
      refine tz_iconst (v := nI 0) C dX0_noInstruction_16 (by decide) ?_
      exact R _ _ _ _ dX0_noInstruction_17 (by first | rfl | decide | exact tp_bz_nar _) (⟨rfl, (tp_bz_f (fun q => q.elim c1 (fun q => Int32.not_le.mpr c9 q))).symm⟩)
    · skip
      refine tz_iconst (v := nI 1) C dX0_noInstruction_12 (by decide) ?_
      refine tz_goto (tgt := 17) C dX0_noInstruction_13 (by decide) ?_
      exact R _ _ _ _ dX0_noInstruction_17 (by first | rfl | decide | exact tp_bz_nar _) (⟨rfl, (tp_bz_t (Or.inr (Int32.not_lt.mp c9))).symm⟩)
theorem mX0_above {x : Nat} (hx : x < 16) : tz_Si yX0_above cX0_above 1 0 [nI x] (fun r => ∀ y, tp_bt r y = decide (x < y ∧ y < 16)) := by
  refine tz_enters (by decide) (Nat.le_of_ble_eq_true rfl) (fun E a C R => ?_)
  show tz_Z _ E 0 [some (.int (nI x))] [] _
  refine tz_ldc C dX0_above_0 q152 ?_
  refine tz_iconst (v := nI 2) C dX0_above_2 (by decide) ?_
  refine tz_iload_0 C dX0_above_3 ?_
  refine tz_ishl C dX0_above_4 ?_
  refine tz_iconst (v := nI 1) C dX0_above_5 (by decide) ?_
  refine tz_isub C dX0_above_6 ?_
  refine tz_iconst (v := -1) C dX0_above_7 (by decide) ?_
  refine tz_ixor C dX0_above_8 ?_
  refine tz_iand C dX0_above_9 ?_
  refine R _ _ _ dX0_above_10 (fun y => ?_)
  by_cases hy : y < 32
  · exact tp_above32 x hx y hy
  · rw [tp_bt_ge _ (Nat.not_lt.mp hy)]
    have : ¬ (x < y ∧ y < 16) := by omega
    simp [this]
theorem mX0_ones (row : Int32) : tz_Si yX0_ones cX0_ones 3 0 [row] (fun r => r = nI (tp_cn (tp_bt row) 16)) := by
  refine tz_enters (by decide) (Nat.le_of_ble_eq_true rfl) (fun E a C R => ?_)
  show tz_Z _ E 0 [some (.int row), none, none] [] _
  refine tz_iconst (v := nI 0) C dX0_ones_0 (by decide) ?_
  refine tz_istore_1 C dX0_ones_1 ?_
  refine tz_iconst (v := nI 0) C dX0_ones_2 (by decide) ?_
  refine tz_istore_2 C dX0_ones_3 ?_
  have loop : ∀ y, y ≤ 16 → tz_Z (tz_I0 yX0_ones.cls) E 4 [some (.int row), some (.int (nI (tp_cn (tp_bt row) y))), some (.int (nI y))] [] a := by
    refine tz_upto 16 (fun y hy ih => ?_)
    refine tz_iload_2 C dX0_ones_4 ?_
    refine tz_bipush (v := nI 16) C dX0_ones_5 (by decide) ?_
    refine tz_icmp_ge_n (tgt := 24) C dX0_ones_7 (by decide) (fun c7 => ?_) (fun c7 => ?_)
    · skip
      refine tz_iload_1 C dX0_ones_24 ?_
      exact R _ _ _ dX0_ones_25 (by rw [show y = 16 by omega])
    · skip
      refine tz_iload_1 C dX0_ones_10 ?_
      refine tz_iload_0 C dX0_ones_11 ?_
      refine tz_iload_2 C dX0_ones_12 ?_
      refine tz_ishr C dX0_ones_13 ?_
      refine tz_iconst (v := nI 1) C dX0_ones_14 (by decide) ?_
      refine tz_iand C dX0_ones_15 ?_
      refine tz_top (tp_shr_n row (by omega)) ?_
      first | refine tz_iadd_n C dX0_ones_16 ?_ | refine tz_iadd C dX0_ones_16 ?_
      refine tz_istore_1 C dX0_ones_17 ?_
      refine tz_iinc_2_n C dX0_ones_18 ?_
      refine tz_goto (tgt := 4) C dX0_ones_21 (by decide) ?_
      exact ih (by omega)
  exact loop 0 (by decide)
theorem mX0_addPair (x y : Int32) (a : tz_S) : tz_Mv IX0 yX0_addPair cX0_addPair 3 0 [x, y] a (fun u => u = tz_sw a 13 (tp_lo x) (a 13 (tp_lo x) ||| nI 1 <<< (nI (tp_lo y) &&& 31))) := by
  have h1 := tp_lo_lt x
  refine tz_enterv (by decide) rfl (Nat.le_of_ble_eq_true rfl) (fun E C R => ?_)
  show tz_Z _ E 0 [some (.ref (tz_h E 0)), some (.int x), some (.int y)] [] _
  refine tz_aload_0 C dX0_addPair_0 ?_
  refine tz_getA okX0 C 13 dX0_addPair_1 rfl q51 ?_
  refine tz_iload_1 C dX0_addPair_4 ?_
  refine tz_bipush (v := nI 15) C dX0_addPair_5 (by decide) ?_
  refine tz_iand C dX0_addPair_7 ?_
  refine tz_top (tp_and15 _) ?_
  refine tz_dup2 C dX0_addPair_8 rfl rfl ?_
  refine tz_iald okX0 C dX0_addPair_9 rfl ?_
  refine tz_iconst (v := nI 1) C dX0_addPair_10 (by decide) ?_
  refine tz_iload_2 C dX0_addPair_11 ?_
  refine tz_bipush (v := nI 15) C dX0_addPair_12 (by decide) ?_
  refine tz_iand C dX0_addPair_14 ?_
  refine tz_top (tp_and15 _) ?_
  refine tz_ishl C dX0_addPair_15 ?_
  refine tz_ior C dX0_addPair_16 ?_
  refine tz_iast okX0 C dX0_addPair_17 rfl ?_
  exact R _ _ _ dX0_addPair_18 (rfl)
theorem mX0_pair {o x y : Nat} (ho : 3 ≤ o ∧ o ≤ 7) (hx : x < 16) (hy : y < 16) (c : Int32) (a : tz_S) : tz_Mv IX0 yX0_pair cX0_pair 4 1 [nI o, nI x, nI y] a (tp_Pair o c x y a) := by
  refine tz_enterv (by decide) rfl (Nat.le_of_ble_eq_true rfl) (fun E C R => ?_)
  show tz_Z _ E 0 [some (.ref (tz_h E 0)), some (.int (nI o)), some (.int (nI x)), some (.int (nI y))] [] _
  refine tz_iload_1 C dX0_pair_0 ?_
  obtain rfl | rfl | rfl | rfl | rfl : o = 3 ∨ o = 4 ∨ o = 5 ∨ o = 6 ∨ o = 7 := by omega
  · refine tz_tsw (tgt := 32) C dX0_pair_1 (by decide) (by decide) rfl (by decide) ?_
    refine tz_aload_0 C dX0_pair_32 ?_
    refine tz_iload_2 C dX0_pair_33 ?_
    refine tz_iload_3 C dX0_pair_34 ?_
    first | refine tz_iadd_n C dX0_pair_35 ?_ | refine tz_iadd C dX0_pair_35 ?_
    refine tz_iload_3 C dX0_pair_36 ?_
    refine tz_callv2 okX0 C vX0_addPair (mX0_addPair _ _ _) dX0_pair_37 (fun u hu => ?_)
    refine tz_goto (tgt := 99) C dX0_pair_40 (by decide) ?_
    exact R _ _ _ dX0_pair_99 (by subst hu; exact tp_pairN (o := 3) (by decide) (by omega))
  · refine tz_tsw (tgt := 43) C dX0_pair_1 (by decide) (by decide) rfl (by decide) ?_
    refine tz_aload_0 C dX0_pair_43 ?_
    refine tz_iload_2 C dX0_pair_44 ?_
    refine tz_iload_3 C dX0_pair_45 ?_
    refine tz_isub C dX0_pair_46 ?_
    refine tz_iload_3 C dX0_pair_47 ?_
    refine tz_callv2 okX0 C vX0_addPair (mX0_addPair _ _ _) dX0_pair_48 (fun u hu => ?_)
    refine tz_goto (tgt := 99) C dX0_pair_51 (by decide) ?_
    exact R _ _ _ dX0_pair_99 (by subst hu; exact tp_pairN (o := 4) (by decide) (by omega))
  · refine tz_tsw (tgt := 54) C dX0_pair_1 (by decide) (by decide) rfl (by decide) ?_
    refine tz_aload_0 C dX0_pair_54 ?_
    refine tz_iload_2 C dX0_pair_55 ?_
    refine tz_iload_3 C dX0_pair_56 ?_
    first | refine tz_imul_n C dX0_pair_57 ?_ | refine tz_imul C dX0_pair_57 ?_
    refine tz_iload_3 C dX0_pair_58 ?_
    refine tz_callv2 okX0 C vX0_addPair (mX0_addPair _ _ _) dX0_pair_59 (fun u hu => ?_)
    refine tz_goto (tgt := 99) C dX0_pair_62 (by decide) ?_
    exact R _ _ _ dX0_pair_99 (by subst hu; exact tp_pairN (o := 5) (by decide) (by omega))
  · refine tz_tsw (tgt := 65) C dX0_pair_1 (by decide) (by decide) rfl (by decide) ?_
    refine tz_iload_3 C dX0_pair_65 ?_
    refine tz_if_ne (tgt := 82) C dX0_pair_66 (by decide) (fun c66 => ?_) (fun c66 => ?_)
    · have hy0 : ¬ y = 0 := fun q => c66 (by rw [q]; rfl)
      refine tz_aload_0 C dX0_pair_82 ?_
      refine tz_iload_2 C dX0_pair_83 ?_
      refine tz_iload_3 C dX0_pair_84 ?_
      refine tz_idiv_n C dX0_pair_85 ?_
      refine tz_iload_3 C dX0_pair_86 ?_
      refine tz_callv2 okX0 C vX0_addPair (mX0_addPair _ _ _) dX0_pair_87 (fun u hu => ?_)
      refine tz_goto (tgt := 99) C dX0_pair_90 (by decide) ?_
      exact R _ _ _ dX0_pair_99 (by subst hu; exact tp_pairN (o := 6) (by decide) (by omega))
    · have hy0 : y = 0 := (nI_eq (by omega) (by decide)).mp (c66.trans nI_0.symm)
      subst hy0
      refine tz_aload_0 C dX0_pair_69 ?_
      refine tz_getA okX0 C 15 dX0_pair_70 rfl q53 ?_
      refine tz_iload_2 C dX0_pair_73 ?_
      refine tz_dup2 C dX0_pair_74 rfl rfl ?_
      refine tz_iald okX0 C dX0_pair_75 rfl ?_
      refine tz_iconst (v := nI 1) C dX0_pair_76 (by decide) ?_
      refine tz_ior C dX0_pair_77 ?_
      refine tz_iast okX0 C dX0_pair_78 rfl ?_
      refine tz_goto (tgt := 99) C dX0_pair_79 (by decide) ?_
      exact R _ _ _ dX0_pair_99 (tp_pairT)
  · refine tz_tsd (tgt := 93) C dX0_pair_1 (by decide) (by decide) ?_
    refine tz_aload_0 C dX0_pair_93 ?_
    refine tz_iload_3 C dX0_pair_94 ?_
    refine tz_iload_2 C dX0_pair_95 ?_
    refine tz_callv2 okX0 C vX0_addPair (mX0_addPair _ _ _) dX0_pair_96 (fun u hu => ?_)
    exact R _ _ _ dX0_pair_99 (by subst hu; exact tp_pairN (o := 7) (by decide) (by omega))
theorem mX0_pairs {o x : Nat} (ho : 3 ≤ o ∧ o ≤ 7) (hx : x < 16) (c : Int32) (a : tz_S) (hw : tp_wf (a 12 x)) : tz_Mv IX0 yX0_pairs cX0_pairs 4 2 [nI o, nI x] a (tp_Row o c x a) := by
  refine tz_enterv (by decide) rfl (Nat.le_of_ble_eq_true rfl) (fun E C R => ?_)
  show tz_Z _ E 0 [some (.ref (tz_h E 0)), some (.int (nI o)), some (.int (nI x)), none] [] _
  refine tz_iconst (v := nI 0) C dX0_pairs_0 (by decide) ?_
  refine tz_istore_3 C dX0_pairs_1 ?_
  have htk : ∀ y, ¬ tp_tk o x y := fun y => by unfold tp_tk; omega
  have loop : ∀ y, y ≤ 16 → ∀ u : tz_S, ((∀ k, k ≠ 13 → k ≠ 15 → u k = a k) ∧ (∀ x', x' < 16 → ∀ y', tp_bt (u 13 x') y' = true ↔ tp_bt (a 13 x') y' = true ∨ ∃ y0, y0 < y ∧ tp_bt (a 12 x) y0 = true ∧ tp_mv o c x y0 x' y') ∧ ∀ x', x' < 16 → ∀ y', tp_bt (u 15 x') y' = true ↔ tp_bt (a 15 x') y' = true ∨ (x' = x ∧ y' < y ∧ tp_bt (a 12 x) y' = true ∧ tp_tr o c x y')) → tz_Z IX0 E 2 [some (.ref (tz_h E 0)), some (.int (nI o)), some (.int (nI x)), some (.int (nI y))] [] u := by
    refine tz_upto 16 (fun y hy ih => ?_)
    intro u hu
    refine tz_iload_3 C dX0_pairs_2 ?_
    refine tz_bipush (v := nI 16) C dX0_pairs_3 (by decide) ?_
    refine tz_icmp_ge_n (tgt := 35) C dX0_pairs_5 (by decide) (fun c5 => ?_) (fun c5 => ?_)
    · refine R _ _ _ dX0_pairs_35 ?_
      have hy16 : y = 16 := by omega
      subst hy16
      refine ⟨fun k h1 h2 h3 => hu.1 k h1 h3, fun x' hx' y' => ?_, fun x' hx' y' => ?_, fun x' hx' y' => ?_⟩
      · rw [hu.2.1 x' hx' y']
        exact or_congr Iff.rfl ⟨fun ⟨y0, _, h1, h2⟩ => ⟨y0, h1, h2, htk _⟩, fun ⟨y0, h1, h2, _⟩ => ⟨y0, hw y0 h1, h1, h2⟩⟩
      · rw [hu.1 14 (by decide) (by decide)]
        exact ⟨Or.inl, fun q => q.elim id (fun ⟨y0, _, _, h⟩ => absurd h (htk _))⟩
      · rw [hu.2.2 x' hx' y']
        exact or_congr Iff.rfl ⟨fun ⟨h1, _, h2, h3⟩ => ⟨h1, h2, h3⟩, fun ⟨h1, h2, h3⟩ => ⟨h1, hw y' h2, h2, h3⟩⟩
    · skip
      refine tz_aload_0 C dX0_pairs_8 ?_
      refine tz_getA okX0 C 12 dX0_pairs_9 rfl q50 ?_
      refine tz_iload_2 C dX0_pairs_12 ?_
      refine tz_iald okX0 C dX0_pairs_13 rfl ?_
      refine tz_iload_3 C dX0_pairs_14 ?_
      refine tz_ishr C dX0_pairs_15 ?_
      refine tz_iconst (v := nI 1) C dX0_pairs_16 (by decide) ?_
      refine tz_iand C dX0_pairs_17 ?_
      refine tz_iconst (v := nI 1) C dX0_pairs_18 (by decide) ?_
      have hin : u 12 = a 12 := hu.1 12 (by decide) (by decide)
      rw [hin]
      refine tz_icmp_ne (tgt := 29) C dX0_pairs_19 (by decide) (fun c19 => ?_) (fun c19 => ?_)
      · skip
        refine tz_iinc_3_n C dX0_pairs_29 ?_
        refine tz_goto (tgt := 2) C dX0_pairs_32 (by decide) ?_
        have hb : ¬ tp_bt (a 12 x) y = true := fun q => c19 (tp_shr_t c5 q)
        refine ih c5 u ⟨hu.1, fun x' hx' y' => ?_, fun x' hx' y' => ?_⟩
        · rw [hu.2.1 x' hx' y']
          refine or_congr Iff.rfl ⟨fun ⟨y0, h1, h2⟩ => ⟨y0, by omega, h2⟩, fun ⟨y0, h1, h2⟩ => ⟨y0, ?_, h2⟩⟩
          rcases Nat.lt_or_ge y0 y with q | q
          · exact q
          · exact absurd h2.1 (by rw [show y0 = y by omega]; exact hb)
        · rw [hu.2.2 x' hx' y']
          refine or_congr Iff.rfl ⟨fun ⟨h1, h2, h3⟩ => ⟨h1, by omega, h3⟩, fun ⟨h1, h2, h3⟩ => ⟨h1, ?_, h3⟩⟩
          rcases Nat.lt_or_ge y' y with q | q
          · exact q
          · exact absurd h3.1 (by rw [show y' = y by omega]; exact hb)
      · have hb : tp_bt (a 12 x) y = true := (tp_shr_iff _ c5).mp c19
        refine tz_aload_0 C dX0_pairs_22 ?_
        refine tz_iload_1 C dX0_pairs_23 ?_
        refine tz_iload_2 C dX0_pairs_24 ?_
        refine tz_iload_3 C dX0_pairs_25 ?_
        refine tz_callv3 okX0 C vX0_pair (mX0_pair ho hx c5 c u) dX0_pairs_26 (fun w hw1 => ?_)
        refine tz_iinc_3_n C dX0_pairs_29 ?_
        refine tz_goto (tgt := 2) C dX0_pairs_32 (by decide) ?_
        refine ih c5 w ⟨fun k h1 h2 => (hw1.1 k h1 h2).trans (hu.1 k h1 h2), fun x' hx' y' => ?_, fun x' hx' y' => ?_⟩
        · rw [hw1.2.1 x' hx' y', hu.2.1 x' hx' y', or_assoc]
          refine or_congr Iff.rfl ⟨fun q => ?_, fun ⟨y0, h1, h2, h3⟩ => ?_⟩
          · rcases q with ⟨y0, h1, h2⟩ | h1
            · exact ⟨y0, by omega, h2⟩
            · exact ⟨y, by omega, hb, h1⟩
          · rcases Nat.lt_or_ge y0 y with q | q
            · exact Or.inl ⟨y0, q, h2, h3⟩
            · rw [show y0 = y by omega] at h3; exact Or.inr h3
        · rw [hw1.2.2 x' hx' y', hu.2.2 x' hx' y', or_assoc]
          refine or_congr Iff.rfl ⟨fun q => ?_, fun ⟨h1, h2, h3, h4⟩ => ?_⟩
          · rcases q with ⟨h1, h2, h3⟩ | ⟨h1, h2, h3⟩
            · exact ⟨h1, by omega, h3⟩
            · subst h2; exact ⟨h1, by omega, hb, h3⟩
          · rcases Nat.lt_or_ge y' y with q | q
            · exact Or.inl ⟨h1, q, h3, h4⟩
            · have hyy : y' = y := by omega
              subst hyy; exact Or.inr ⟨h1, rfl, h4⟩
  refine loop 0 (by decide) a ⟨fun _ _ _ => rfl, fun x' hx' y' => ?_, fun x' hx' y' => ?_⟩
  · exact ⟨Or.inl, fun q => q.elim id (fun ⟨y0, h, _⟩ => absurd h (Nat.not_lt_zero _))⟩
  · exact ⟨Or.inl, fun q => q.elim id (fun ⟨_, h, _⟩ => absurd h (Nat.not_lt_zero _))⟩
theorem mX0_setRow {o x : Nat} (ho : o ≤ 2) (hx : x < 16) (c : Int32) (a : tz_S) (hw : tp_wf (a 12 x)) (hn : ¬ a 12 x = 0) : tz_Mv IX0 yX0_setRow cX0_setRow 4 0 [nI o, c, nI x] a (tp_Row o c x a) := by
  have h1 := tp_lo_lt c
  have h2 := tp_lo_lt (nI x + c)
  refine tz_enterv (by decide) rfl (Nat.le_of_ble_eq_true rfl) (fun E C R => ?_)
  show tz_Z _ E 0 [some (.ref (tz_h E 0)), some (.int (nI o)), some (.int c), some (.int (nI x))] [] _
  obtain rfl | rfl | rfl : o = 0 ∨ o = 1 ∨ o = 2 := by omega
  · skip
    refine tz_iload_1 C dX0_setRow_0 ?_
    refine tz_if_ne (tgt := 25) C dX0_setRow_1 (by decide) (fun c1 => ?_) (fun c1 => ?_)
    · exact absurd nI_0 c1
    · skip
      refine tz_aload_0 C dX0_setRow_4 ?_
      refine tz_getA okX0 C 13 dX0_setRow_5 rfl q51 ?_
      refine tz_iload_2 C dX0_setRow_8 ?_
      refine tz_bipush (v := nI 15) C dX0_setRow_9 (by decide) ?_
      refine tz_iand C dX0_setRow_11 ?_
      refine tz_top (tp_and15 _) ?_
      refine tz_dup2 C dX0_setRow_12 rfl rfl ?_
      refine tz_iald okX0 C dX0_setRow_13 rfl ?_
      refine tz_aload_0 C dX0_setRow_14 ?_
      refine tz_getA okX0 C 12 dX0_setRow_15 rfl q50 ?_
      refine tz_iload_3 C dX0_setRow_18 ?_
      refine tz_iald okX0 C dX0_setRow_19 rfl ?_
      refine tz_ior C dX0_setRow_20 ?_
      refine tz_iast okX0 C dX0_setRow_21 rfl ?_
      refine tz_goto (tgt := 68) C dX0_setRow_22 (by decide) ?_
      exact R _ _ _ dX0_setRow_68 (tp_row0 hw)
  · skip
    refine tz_iload_1 C dX0_setRow_0 ?_
    refine tz_if_ne (tgt := 25) C dX0_setRow_1 (by decide) (fun c1 => ?_) (fun c1 => ?_)
    · skip
      refine tz_iload_1 C dX0_setRow_25 ?_
      refine tz_iconst (v := nI 1) C dX0_setRow_26 (by decide) ?_
      refine tz_icmp_ne_n (tgt := 48) C dX0_setRow_27 (by decide) (fun c27 => ?_) (fun c27 => ?_)
      · exact absurd rfl c27
      · skip
        refine tz_aload_0 C dX0_setRow_30 ?_
        refine tz_getA okX0 C 13 dX0_setRow_31 rfl q51 ?_
        refine tz_iload_3 C dX0_setRow_34 ?_
        refine tz_dup2 C dX0_setRow_35 rfl rfl ?_
        refine tz_iald okX0 C dX0_setRow_36 rfl ?_
        refine tz_iconst (v := nI 1) C dX0_setRow_37 (by decide) ?_
        refine tz_iload_2 C dX0_setRow_38 ?_
        refine tz_bipush (v := nI 15) C dX0_setRow_39 (by decide) ?_
        refine tz_iand C dX0_setRow_41 ?_
        refine tz_top (tp_and15 _) ?_
        refine tz_ishl C dX0_setRow_42 ?_
        refine tz_ior C dX0_setRow_43 ?_
        refine tz_iast okX0 C dX0_setRow_44 rfl ?_
        refine tz_goto (tgt := 68) C dX0_setRow_45 (by decide) ?_
        exact R _ _ _ dX0_setRow_68 (tp_row1 hx hn)
    · exact absurd c1 tp_n10
  · skip
    refine tz_iload_1 C dX0_setRow_0 ?_
    refine tz_if_ne (tgt := 25) C dX0_setRow_1 (by decide) (fun c1 => ?_) (fun c1 => ?_)
    · skip
      refine tz_iload_1 C dX0_setRow_25 ?_
      refine tz_iconst (v := nI 1) C dX0_setRow_26 (by decide) ?_
      refine tz_icmp_ne_n (tgt := 48) C dX0_setRow_27 (by decide) (fun c27 => ?_) (fun c27 => ?_)
      · skip
        refine tz_aload_0 C dX0_setRow_48 ?_
        refine tz_getA okX0 C 13 dX0_setRow_49 rfl q51 ?_
        refine tz_iload_3 C dX0_setRow_52 ?_
        refine tz_iload_2 C dX0_setRow_53 ?_
        first | refine tz_iadd_n C dX0_setRow_54 ?_ | refine tz_iadd C dX0_setRow_54 ?_
        refine tz_bipush (v := nI 15) C dX0_setRow_55 (by decide) ?_
        refine tz_iand C dX0_setRow_57 ?_
        refine tz_top (tp_and15 _) ?_
        refine tz_dup2 C dX0_setRow_58 rfl rfl ?_
        refine tz_iald okX0 C dX0_setRow_59 rfl ?_
        refine tz_aload_0 C dX0_setRow_60 ?_
        refine tz_getA okX0 C 12 dX0_setRow_61 rfl q50 ?_
        refine tz_iload_3 C dX0_setRow_64 ?_
        refine tz_iald okX0 C dX0_setRow_65 rfl ?_
        refine tz_ior C dX0_setRow_66 ?_
        refine tz_iast okX0 C dX0_setRow_67 rfl ?_
        exact R _ _ _ dX0_setRow_68 (tp_row2 hw)
      · exact absurd c27 (by decide)
    · exact absurd c1 (by decide)
theorem mX0_checkRow {o x : Nat} (ho : 8 ≤ o ∧ o ≤ 9) (hx : x < 16) (c : Int32) (a : tz_S) (hw : tp_wf (a 12 x)) (hn : ¬ a 12 x = 0) (h0 : a 13 x = 0) (h1 : a 15 x = 0) : tz_Mv IX0 yX0_checkRow cX0_checkRow 4 0 [nI o, c, nI x] a (tp_Row o c x a) := by
  have h2 := tp_l5_lt c
  refine tz_enterv (by decide) rfl (Nat.le_of_ble_eq_true rfl) (fun E C R => ?_)
  show tz_Z _ E 0 [some (.ref (tz_h E 0)), some (.int (nI o)), some (.int c), some (.int (nI x))] [] _
  obtain rfl | rfl : o = 8 ∨ o = 9 := by omega
  · skip
    refine tz_iload_1 C dX0_checkRow_0 ?_
    refine tz_bipush (v := nI 9) C dX0_checkRow_1 (by decide) ?_
    refine tz_icmp_ne_n (tgt := 17) C dX0_checkRow_3 (by decide) (fun c3 => ?_) (fun c3 => ?_)
    · skip
      refine tz_iload_3 C dX0_checkRow_17 ?_
      refine tz_iload_2 C dX0_checkRow_18 ?_
      refine tz_bipush (v := nI 31) C dX0_checkRow_19 (by decide) ?_
      refine tz_iand C dX0_checkRow_21 ?_
      refine tz_top (tp_and31 _) ?_
      refine tz_icmp_lt_n (tgt := 40) C dX0_checkRow_22 (by decide) (fun c22 => ?_) (fun c22 => ?_)
      · skip
        refine tz_aload_0 C dX0_checkRow_40 ?_
        refine tz_getA okX0 C 13 dX0_checkRow_41 rfl q51 ?_
        refine tz_iload_3 C dX0_checkRow_44 ?_
        refine tz_aload_0 C dX0_checkRow_45 ?_
        refine tz_getA okX0 C 12 dX0_checkRow_46 rfl q50 ?_
        refine tz_iload_3 C dX0_checkRow_49 ?_
        refine tz_iald okX0 C dX0_checkRow_50 rfl ?_
        refine tz_iast okX0 C dX0_checkRow_51 rfl ?_
        exact R _ _ _ dX0_checkRow_52 (tp_row8b hx hw (by omega) h0)
      · skip
        refine tz_aload_0 C dX0_checkRow_25 ?_
        refine tz_getA okX0 C 15 dX0_checkRow_26 rfl q53 ?_
        refine tz_iload_3 C dX0_checkRow_29 ?_
        refine tz_aload_0 C dX0_checkRow_30 ?_
        refine tz_getA okX0 C 12 dX0_checkRow_31 rfl q50 ?_
        refine tz_iload_3 C dX0_checkRow_34 ?_
        refine tz_iald okX0 C dX0_checkRow_35 rfl ?_
        refine tz_iast okX0 C dX0_checkRow_36 rfl ?_
        refine tz_goto (tgt := 52) C dX0_checkRow_37 (by decide) ?_
        exact R _ _ _ dX0_checkRow_52 (tp_row8a c22 h1)
    · exact absurd c3 (by decide)
  · skip
    refine tz_iload_1 C dX0_checkRow_0 ?_
    refine tz_bipush (v := nI 9) C dX0_checkRow_1 (by decide) ?_
    refine tz_icmp_ne_n (tgt := 17) C dX0_checkRow_3 (by decide) (fun c3 => ?_) (fun c3 => ?_)
    · exact absurd rfl c3
    · skip
      refine tz_aload_0 C dX0_checkRow_6 ?_
      refine tz_getA okX0 C 13 dX0_checkRow_7 rfl q51 ?_
      refine tz_iload_3 C dX0_checkRow_10 ?_
      refine tz_ldc C dX0_checkRow_11 q152 ?_
      refine tz_iast okX0 C dX0_checkRow_13 rfl ?_
      refine tz_goto (tgt := 52) C dX0_checkRow_14 (by decide) ?_
      exact R _ _ _ dX0_checkRow_52 (tp_row9 hx hn h0)
theorem mX0_branchRow {o x : Nat} (ho : 10 ≤ o ∧ o ≤ 14) (hx : x < 16) (c : Int32) (a : tz_S) (hw : tp_wf (a 12 x)) (h0 : a 13 x = 0) (h1 : a 14 x = 0) : tz_Mv IX0 yX0_branchRow cX0_branchRow 4 1 [nI o, nI x] a (tp_Row o c x a) := by
  refine tz_enterv (by decide) rfl (Nat.le_of_ble_eq_true rfl) (fun E C R => ?_)
  show tz_Z _ E 0 [some (.ref (tz_h E 0)), some (.int (nI o)), some (.int (nI x)), none] [] _
  refine tz_iconst (v := nI 0) C dX0_branchRow_0 (by decide) ?_
  refine tz_istore_3 C dX0_branchRow_1 ?_
  have fin : ∀ t : Int32, (o ≠ 14 → ∀ y, y < 16 → (tp_bt t y = true ↔ tp_tk o x y)) → tz_Z IX0 E 45 [some (.ref (tz_h E 0)), some (.int (nI o)), some (.int (nI x)), some (.int t)] [] a := by
    intro t ht
    refine tz_iload_1 C dX0_branchRow_45 ?_
    refine tz_bipush (v := nI 14) C dX0_branchRow_46 (by decide) ?_
    refine tz_icmp_eq_n (tgt := 81) C dX0_branchRow_48 (by decide) (fun c48 => ?_) (fun c48 => ?_)
    · have h14 : o = 14 := c48
      subst h14
      exact R _ _ _ dX0_branchRow_81 (tp_row14)
    · skip
      refine tz_aload_0 C dX0_branchRow_51 ?_
      refine tz_getA okX0 C 14 dX0_branchRow_52 rfl q52 ?_
      refine tz_iload_2 C dX0_branchRow_55 ?_
      refine tz_aload_0 C dX0_branchRow_56 ?_
      refine tz_getA okX0 C 12 dX0_branchRow_57 rfl q50 ?_
      refine tz_iload_2 C dX0_branchRow_60 ?_
      refine tz_iald okX0 C dX0_branchRow_61 rfl ?_
      refine tz_iload_3 C dX0_branchRow_62 ?_
      refine tz_iand C dX0_branchRow_63 ?_
      refine tz_iast okX0 C dX0_branchRow_64 rfl ?_
      refine tz_aload_0 C dX0_branchRow_65 ?_
      refine tz_getA okX0 C 13 dX0_branchRow_66 rfl q51 ?_
      refine tz_iload_2 C dX0_branchRow_69 ?_
      refine tz_aload_0 C dX0_branchRow_70 ?_
      refine tz_getA okX0 C 12 dX0_branchRow_71 rfl q50 ?_
      refine tz_iload_2 C dX0_branchRow_74 ?_
      refine tz_iald okX0 C dX0_branchRow_75 rfl ?_
      refine tz_iload_3 C dX0_branchRow_76 ?_
      refine tz_iconst (v := -1) C dX0_branchRow_77 (by decide) ?_
      refine tz_ixor C dX0_branchRow_78 ?_
      refine tz_iand C dX0_branchRow_79 ?_
      refine tz_iast okX0 C dX0_branchRow_80 rfl ?_
      exact R _ _ _ dX0_branchRow_81 (tp_rowB (by omega) hx hw (ht c48) h0 h1)
  obtain rfl | rfl | rfl | rfl | rfl : o = 10 ∨ o = 11 ∨ o = 12 ∨ o = 13 ∨ o = 14 := by omega
  · skip
    refine tz_iload_1 C dX0_branchRow_2 ?_
    refine tz_bipush (v := nI 10) C dX0_branchRow_3 (by decide) ?_
    refine tz_icmp_ne_n (tgt := 11) C dX0_branchRow_5 (by decide) (fun c5 => ?_) (fun c5 => ?_)
    · exact absurd rfl c5
    · skip
      refine tz_ldc C dX0_branchRow_8 q152 ?_
      refine tz_istore_3 C dX0_branchRow_10 ?_
      refine tz_iload_1 C dX0_branchRow_11 ?_
      refine tz_bipush (v := nI 11) C dX0_branchRow_12 (by decide) ?_
      refine tz_icmp_ne_n (tgt := 21) C dX0_branchRow_14 (by decide) (fun c14 => ?_) (fun c14 => ?_)
      · skip
        refine tz_iload_1 C dX0_branchRow_21 ?_
        refine tz_bipush (v := nI 12) C dX0_branchRow_22 (by decide) ?_
        refine tz_icmp_ne_n (tgt := 32) C dX0_branchRow_24 (by decide) (fun c24 => ?_) (fun c24 => ?_)
        · skip
          refine tz_iload_1 C dX0_branchRow_32 ?_
          refine tz_bipush (v := nI 13) C dX0_branchRow_33 (by decide) ?_
          refine tz_icmp_ne_n (tgt := 45) C dX0_branchRow_35 (by decide) (fun c35 => ?_) (fun c35 => ?_)
          · exact fin _ (fun _ y hy => by rw [tp_bt_whole]; simp [tp_tk, hy])
          · exact absurd c35 (by decide)
        · exact absurd c24 (by decide)
      · exact absurd c14 (by decide)
  · skip
    refine tz_iload_1 C dX0_branchRow_2 ?_
    refine tz_bipush (v := nI 10) C dX0_branchRow_3 (by decide) ?_
    refine tz_icmp_ne_n (tgt := 11) C dX0_branchRow_5 (by decide) (fun c5 => ?_) (fun c5 => ?_)
    · skip
      refine tz_iload_1 C dX0_branchRow_11 ?_
      refine tz_bipush (v := nI 11) C dX0_branchRow_12 (by decide) ?_
      refine tz_icmp_ne_n (tgt := 21) C dX0_branchRow_14 (by decide) (fun c14 => ?_) (fun c14 => ?_)
      · exact absurd rfl c14
      · skip
        refine tz_iconst (v := nI 1) C dX0_branchRow_17 (by decide) ?_
        refine tz_iload_2 C dX0_branchRow_18 ?_
        refine tz_ishl C dX0_branchRow_19 ?_
        refine tz_istore_3 C dX0_branchRow_20 ?_
        refine tz_iload_1 C dX0_branchRow_21 ?_
        refine tz_bipush (v := nI 12) C dX0_branchRow_22 (by decide) ?_
        refine tz_icmp_ne_n (tgt := 32) C dX0_branchRow_24 (by decide) (fun c24 => ?_) (fun c24 => ?_)
        · skip
          refine tz_iload_1 C dX0_branchRow_32 ?_
          refine tz_bipush (v := nI 13) C dX0_branchRow_33 (by decide) ?_
          refine tz_icmp_ne_n (tgt := 45) C dX0_branchRow_35 (by decide) (fun c35 => ?_) (fun c35 => ?_)
          · exact fin _ (fun _ y hy => by rw [tp_bt_shl1 hx]; simp [tp_tk]; exact eq_comm)
          · exact absurd c35 (by decide)
        · exact absurd c24 (by decide)
    · exact absurd c5 (by decide)
  · skip
    refine tz_iload_1 C dX0_branchRow_2 ?_
    refine tz_bipush (v := nI 10) C dX0_branchRow_3 (by decide) ?_
    refine tz_icmp_ne_n (tgt := 11) C dX0_branchRow_5 (by decide) (fun c5 => ?_) (fun c5 => ?_)
    · skip
      refine tz_iload_1 C dX0_branchRow_11 ?_
      refine tz_bipush (v := nI 11) C dX0_branchRow_12 (by decide) ?_
      refine tz_icmp_ne_n (tgt := 21) C dX0_branchRow_14 (by decide) (fun c14 => ?_) (fun c14 => ?_)
      · skip
        refine tz_iload_1 C dX0_branchRow_21 ?_
        refine tz_bipush (v := nI 12) C dX0_branchRow_22 (by decide) ?_
        refine tz_icmp_ne_n (tgt := 32) C dX0_branchRow_24 (by decide) (fun c24 => ?_) (fun c24 => ?_)
        · exact absurd rfl c24
        · skip
          refine tz_iload_2 C dX0_branchRow_27 ?_
          refine tz_calls1 C vX0_above (mX0_above hx) dX0_branchRow_28 (fun r hr => ?_)
          refine tz_istore_3 C dX0_branchRow_31 ?_
          refine tz_iload_1 C dX0_branchRow_32 ?_
          refine tz_bipush (v := nI 13) C dX0_branchRow_33 (by decide) ?_
          refine tz_icmp_ne_n (tgt := 45) C dX0_branchRow_35 (by decide) (fun c35 => ?_) (fun c35 => ?_)
          · exact fin _ (fun _ y hy => by rw [hr y]; simp [tp_tk, hy])
          · exact absurd c35 (by decide)
      · exact absurd c14 (by decide)
    · exact absurd c5 (by decide)
  · skip
    refine tz_iload_1 C dX0_branchRow_2 ?_
    refine tz_bipush (v := nI 10) C dX0_branchRow_3 (by decide) ?_
    refine tz_icmp_ne_n (tgt := 11) C dX0_branchRow_5 (by decide) (fun c5 => ?_) (fun c5 => ?_)
    · skip
      refine tz_iload_1 C dX0_branchRow_11 ?_
      refine tz_bipush (v := nI 11) C dX0_branchRow_12 (by decide) ?_
      refine tz_icmp_ne_n (tgt := 21) C dX0_branchRow_14 (by decide) (fun c14 => ?_) (fun c14 => ?_)
      · skip
        refine tz_iload_1 C dX0_branchRow_21 ?_
        refine tz_bipush (v := nI 12) C dX0_branchRow_22 (by decide) ?_
        refine tz_icmp_ne_n (tgt := 32) C dX0_branchRow_24 (by decide) (fun c24 => ?_) (fun c24 => ?_)
        · skip
          refine tz_iload_1 C dX0_branchRow_32 ?_
          refine tz_bipush (v := nI 13) C dX0_branchRow_33 (by decide) ?_
          refine tz_icmp_ne_n (tgt := 45) C dX0_branchRow_35 (by decide) (fun c35 => ?_) (fun c35 => ?_)
          · exact absurd rfl c35
          · skip
            refine tz_iload_2 C dX0_branchRow_38 ?_
            refine tz_if_ne (tgt := 45) C dX0_branchRow_39 (by decide) (fun c39 => ?_) (fun c39 => ?_)
            · have hx0 : ¬ x = 0 := fun q => c39 (by rw [q]; rfl)
              exact fin _ (fun _ y hy => by rw [tp_bt_n0]; simp [tp_tk, hx0])
            · have hx0 : x = 0 := (nI_eq (by omega) (by decide)).mp (c39.trans nI_0.symm)
              refine tz_ldc C dX0_branchRow_42 q152 ?_
              refine tz_istore_3 C dX0_branchRow_44 ?_
              exact fin _ (fun _ y hy => by rw [tp_bt_whole]; simp [tp_tk, hx0, hy])
        · exact absurd c24 (by decide)
      · exact absurd c14 (by decide)
    · exact absurd c5 (by decide)
  · skip
    refine tz_iload_1 C dX0_branchRow_2 ?_
    refine tz_bipush (v := nI 10) C dX0_branchRow_3 (by decide) ?_
    refine tz_icmp_ne_n (tgt := 11) C dX0_branchRow_5 (by decide) (fun c5 => ?_) (fun c5 => ?_)
    · skip
      refine tz_iload_1 C dX0_branchRow_11 ?_
      refine tz_bipush (v := nI 11) C dX0_branchRow_12 (by decide) ?_
      refine tz_icmp_ne_n (tgt := 21) C dX0_branchRow_14 (by decide) (fun c14 => ?_) (fun c14 => ?_)
      · skip
        refine tz_iload_1 C dX0_branchRow_21 ?_
        refine tz_bipush (v := nI 12) C dX0_branchRow_22 (by decide) ?_
        refine tz_icmp_ne_n (tgt := 32) C dX0_branchRow_24 (by decide) (fun c24 => ?_) (fun c24 => ?_)
        · skip
          refine tz_iload_1 C dX0_branchRow_32 ?_
          refine tz_bipush (v := nI 13) C dX0_branchRow_33 (by decide) ?_
          refine tz_icmp_ne_n (tgt := 45) C dX0_branchRow_35 (by decide) (fun c35 => ?_) (fun c35 => ?_)
          · exact fin _ (fun q => absurd rfl q)
          · exact absurd c35 (by decide)
        · exact absurd c24 (by decide)
      · exact absurd c14 (by decide)
    · exact absurd c5 (by decide)
end
section
/-! TrapProver: transfer, takeFresh, send, passOn, settle -/
set_option maxRecDepth 100000
theorem mX0_transfer {p o : Nat} (hp : p < 16) (a : tz_S) (ho : a 1 p = nI o) (ho14 : o ≤ 14) (hw : ∀ x, x < 16 → tp_wf (a 12 x)) : tz_Mv IX0 yX0_transfer cX0_transfer 5 3 [nI p] a (tp_TrN 16 o (a 2 p) a) := by
  refine tz_enterv (by decide) rfl (Nat.le_of_ble_eq_true rfl) (fun E C R => ?_)
  show tz_Z _ E 0 [some (.ref (tz_h E 0)), some (.int (nI p)), none, none, none] [] _
  refine tz_iconst (v := nI 0) C dX0_transfer_0 (by decide) ?_
  refine tz_istore_2 C dX0_transfer_1 ?_
  have body : ∀ u : tz_S, tp_TrN 0 o (a 2 p) a u → tz_Z IX0 E 49 [some (.ref (tz_h E 0)), some (.int (nI p)), some (.int (nI o)), some (.int (a 2 p)), none] [] u := by
    intro u0 h0
    refine tz_iconst (v := nI 0) C dX0_transfer_49 (by decide) ?_
    refine tz_istore_4 C dX0_transfer_50 ?_
    have loop : ∀ x, x ≤ 16 → ∀ u : tz_S, tp_TrN x o (a 2 p) a u → tz_Z IX0 E 52 [some (.ref (tz_h E 0)), some (.int (nI p)), some (.int (nI o)), some (.int (a 2 p)), some (.int (nI x))] [] u := by
      refine tz_upto 16 (fun x hx ih => ?_)
      intro u hu
      have h12 : u 12 = a 12 := hu.1 12 (by decide) (by decide) (by decide)
      refine tz_iload_4 C dX0_transfer_52 ?_
      refine tz_bipush (v := nI 16) C dX0_transfer_54 (by decide) ?_
      refine tz_icmp_ge_n (tgt := 131) C dX0_transfer_56 (by decide) (fun c56 => ?_) (fun c56 => ?_)
      · skip
        exact R _ _ _ dX0_transfer_131 (by rw [show (16 : Nat) = x by omega]; exact hu)
      · skip
        refine tz_aload_0 C dX0_transfer_59 ?_
        refine tz_getA okX0 C 12 dX0_transfer_60 rfl q50 ?_
        refine tz_iload_4 C dX0_transfer_63 ?_
        refine tz_iald okX0 C dX0_transfer_65 rfl ?_
        refine tz_if_eq (tgt := 125) C dX0_transfer_66 (by decide) (fun c66 => ?_) (fun c66 => ?_)
        · skip
          refine tz_iinc_4_n C dX0_transfer_125 ?_
          refine tz_goto (tgt := 52) C dX0_transfer_128 (by decide) ?_
          exact ih c56 u (tp_TrN_skip hu (by rw [← h12]; exact c66))
        · have hwx : tp_wf (u 12 x) := by rw [h12]; exact hw x c56
          refine tz_iload_2 C dX0_transfer_69 ?_
          refine tz_iconst (v := nI 2) C dX0_transfer_70 (by decide) ?_
          refine tz_icmp_gt_n (tgt := 85) C dX0_transfer_71 (by decide) (fun c71 => ?_) (fun c71 => ?_)
          · skip
            refine tz_iload_2 C dX0_transfer_85 ?_
            refine tz_bipush (v := nI 7) C dX0_transfer_86 (by decide) ?_
            refine tz_icmp_gt_n (tgt := 101) C dX0_transfer_88 (by decide) (fun c88 => ?_) (fun c88 => ?_)
            · skip
              refine tz_iload_2 C dX0_transfer_101 ?_
              refine tz_bipush (v := nI 9) C dX0_transfer_102 (by decide) ?_
              refine tz_icmp_gt_n (tgt := 118) C dX0_transfer_104 (by decide) (fun c104 => ?_) (fun c104 => ?_)
              · obtain ⟨z1, z2, z3⟩ := tp_TrN_zero hu (by omega) c56
                refine tz_aload_0 C dX0_transfer_118 ?_
                refine tz_iload_2 C dX0_transfer_119 ?_
                refine tz_iload_4 C dX0_transfer_120 ?_
                refine tz_callv2 okX0 C vX0_branchRow (mX0_branchRow (by omega) c56 (a 2 p) u hwx z1 z2) dX0_transfer_122 (fun w hw1 => ?_)
                refine tz_iinc_4_n C dX0_transfer_125 ?_
                refine tz_goto (tgt := 52) C dX0_transfer_128 (by decide) ?_
                exact ih c56 w (tp_TrN_row hu hw1)
              · obtain ⟨z1, z2, z3⟩ := tp_TrN_zero hu (by omega) c56
                refine tz_aload_0 C dX0_transfer_107 ?_
                refine tz_iload_2 C dX0_transfer_108 ?_
                refine tz_iload_3 C dX0_transfer_109 ?_
                refine tz_iload_4 C dX0_transfer_110 ?_
                refine tz_callv3 okX0 C vX0_checkRow (mX0_checkRow (by omega) c56 (a 2 p) u hwx c66 z1 z3) dX0_transfer_112 (fun w hw1 => ?_)
                refine tz_goto (tgt := 125) C dX0_transfer_115 (by decide) ?_
                refine tz_iinc_4_n C dX0_transfer_125 ?_
                refine tz_goto (tgt := 52) C dX0_transfer_128 (by decide) ?_
                exact ih c56 w (tp_TrN_row hu hw1)
            · skip
              refine tz_aload_0 C dX0_transfer_91 ?_
              refine tz_iload_2 C dX0_transfer_92 ?_
              refine tz_iload_4 C dX0_transfer_93 ?_
              refine tz_callv2 okX0 C vX0_pairs (mX0_pairs (by omega) c56 (a 2 p) u hwx) dX0_transfer_95 (fun w hw1 => ?_)
              refine tz_goto (tgt := 125) C dX0_transfer_98 (by decide) ?_
              refine tz_iinc_4_n C dX0_transfer_125 ?_
              refine tz_goto (tgt := 52) C dX0_transfer_128 (by decide) ?_
              exact ih c56 w (tp_TrN_row hu hw1)
          · skip
            refine tz_aload_0 C dX0_transfer_74 ?_
            refine tz_iload_2 C dX0_transfer_75 ?_
            refine tz_iload_3 C dX0_transfer_76 ?_
            refine tz_iload_4 C dX0_transfer_77 ?_
            refine tz_callv3 okX0 C vX0_setRow (mX0_setRow (by omega) c56 (a 2 p) u hwx c66) dX0_transfer_79 (fun w hw1 => ?_)
            refine tz_goto (tgt := 125) C dX0_transfer_82 (by decide) ?_
            refine tz_iinc_4_n C dX0_transfer_125 ?_
            refine tz_goto (tgt := 52) C dX0_transfer_128 (by decide) ?_
            exact ih c56 w (tp_TrN_row hu hw1)
    exact loop 0 (by decide) u0 h0
  have loop : ∀ x, x ≤ 16 → ∀ u : tz_S, ((∀ k, k ≠ 13 → k ≠ 14 → k ≠ 15 → u k = a k) ∧ ∀ x', x' < x → u 13 x' = nI 0 ∧ u 14 x' = nI 0 ∧ u 15 x' = nI 0) → tz_Z IX0 E 2 [some (.ref (tz_h E 0)), some (.int (nI p)), some (.int (nI x)), none, none] [] u := by
    refine tz_upto 16 (fun x hx ih => ?_)
    intro u hu
    refine tz_iload_2 C dX0_transfer_2 ?_
    refine tz_bipush (v := nI 16) C dX0_transfer_3 (by decide) ?_
    refine tz_icmp_ge_n (tgt := 35) C dX0_transfer_5 (by decide) (fun c5 => ?_) (fun c5 => ?_)
    · have e1 : u 1 = a 1 := hu.1 1 (by decide) (by decide) (by decide)
      have e2 : u 2 = a 2 := hu.1 2 (by decide) (by decide) (by decide)
      refine tz_aload_0 C dX0_transfer_35 ?_
      refine tz_getA okX0 C 1 dX0_transfer_36 rfl q39 ?_
      refine tz_iload_1 C dX0_transfer_39 ?_
      refine tz_iald okX0 C dX0_transfer_40 rfl ?_
      refine tz_top ((congrFun e1 p).trans ho) ?_
      refine tz_istore_2 C dX0_transfer_41 ?_
      refine tz_aload_0 C dX0_transfer_42 ?_
      refine tz_getA okX0 C 2 dX0_transfer_43 rfl q40 ?_
      refine tz_iload_1 C dX0_transfer_46 ?_
      refine tz_iald okX0 C dX0_transfer_47 rfl ?_
      refine tz_top (congrFun e2 p) ?_
      refine tz_istore_3 C dX0_transfer_48 ?_
      refine body u ⟨hu.1, fun x' hx' y' => ?_, fun x' hx' y' => ?_, fun x' hx' y' => ?_⟩
      · rw [(hu.2 x' (by omega)).1, tp_bt_n0]; simp
      · rw [(hu.2 x' (by omega)).2.1, tp_bt_n0]; simp
      · rw [(hu.2 x' (by omega)).2.2, tp_bt_n0]; simp
    · skip
      refine tz_aload_0 C dX0_transfer_8 ?_
      refine tz_getA okX0 C 13 dX0_transfer_9 rfl q51 ?_
      refine tz_iload_2 C dX0_transfer_12 ?_
      refine tz_iconst (v := nI 0) C dX0_transfer_13 (by decide) ?_
      refine tz_iast okX0 C dX0_transfer_14 rfl ?_
      refine tz_aload_0 C dX0_transfer_15 ?_
      refine tz_getA okX0 C 14 dX0_transfer_16 rfl q52 ?_
      refine tz_iload_2 C dX0_transfer_19 ?_
      refine tz_iconst (v := nI 0) C dX0_transfer_20 (by decide) ?_
      refine tz_iast okX0 C dX0_transfer_21 rfl ?_
      refine tz_aload_0 C dX0_transfer_22 ?_
      refine tz_getA okX0 C 15 dX0_transfer_23 rfl q53 ?_
      refine tz_iload_2 C dX0_transfer_26 ?_
      refine tz_iconst (v := nI 0) C dX0_transfer_27 (by decide) ?_
      refine tz_iast okX0 C dX0_transfer_28 rfl ?_
      refine tz_iinc_2_n C dX0_transfer_29 ?_
      refine tz_goto (tgt := 2) C dX0_transfer_32 (by decide) ?_
      refine ih c5 _ ⟨fun k h1 h2 h3 => ?_, fun x' hx' => ?_⟩
      · rw [tz_sw_o _ _ _ h3, tz_sw_o _ _ _ h2, tz_sw_o _ _ _ h1]; exact hu.1 k h1 h2 h3
      · by_cases hxx : x' = x
        · simp [tz_sw_ap, hxx]
        · simp [tz_sw_ap, hxx]; exact hu.2 x' (by omega)
  exact loop 0 (by decide) a ⟨fun _ _ _ _ => rfl, fun x' hx' => absurd hx' (Nat.not_lt_zero _)⟩
theorem mX0_takeFresh {p : Nat} (hp : p < 16) (a : tz_S) : tz_Mi IX0 yX0_takeFresh cX0_takeFresh 4 .boolean 0 [nI p] a (fun r u => (∀ k, k ≠ 12 → u k = a k) ∧ (∀ x, x < 16 → u 12 x = a 7 (p * 16 + x)) ∧ r = tp_bz (∃ x, x < 16 ∧ ¬ a 7 (p * 16 + x) = 0)) := by
  refine tz_enter (by decide) rfl (Nat.le_of_ble_eq_true rfl) (fun E C R => ?_)
  show tz_Z _ E 0 [some (.ref (tz_h E 0)), some (.int (nI p)), none, none] [] _
  refine tz_iconst (v := nI 0) C dX0_takeFresh_0 (by decide) ?_
  refine tz_istore_2 C dX0_takeFresh_1 ?_
  refine tz_iconst (v := nI 0) C dX0_takeFresh_2 (by decide) ?_
  refine tz_istore_3 C dX0_takeFresh_3 ?_
  have loop : ∀ x, x ≤ 16 → ∀ (s : Int32) (u : tz_S), ((∀ k, k ≠ 12 → u k = a k) ∧ (∀ x', x' < x → u 12 x' = a 7 (p * 16 + x')) ∧ (s = 0 ↔ ∀ x', x' < x → a 7 (p * 16 + x') = 0)) → tz_Z IX0 E 4 [some (.ref (tz_h E 0)), some (.int (nI p)), some (.int s), some (.int (nI x))] [] u := by
    refine tz_upto 16 (fun x hx ih => ?_)
    intro s u hu
    refine tz_iload_3 C dX0_takeFresh_4 ?_
    refine tz_bipush (v := nI 16) C dX0_takeFresh_5 (by decide) ?_
    refine tz_icmp_ge_n (tgt := 42) C dX0_takeFresh_7 (by decide) (fun c7 => ?_) (fun c7 => ?_)
    · have hx16 : x = 16 := by omega
      subst hx16
      refine tz_iload_2 C dX0_takeFresh_42 ?_
      refine tz_if_eq (tgt := 50) C dX0_takeFresh_43 (by decide) (fun c43 => ?_) (fun c43 => ?_)
      · skip
        refine tz_iconst (v := nI 0) C dX0_takeFresh_50 (by decide) ?_
        exact R _ _ _ _ dX0_takeFresh_51 (by first | rfl | decide | exact tp_bz_nar _) (⟨hu.1, hu.2.1, (tp_bz_f (fun ⟨x', h1, h2⟩ => h2 (hu.2.2.mp c43 x' h1))).symm⟩)
      · skip
        refine tz_iconst (v := nI 1) C dX0_takeFresh_46 (by decide) ?_
        refine tz_goto (tgt := 51) C dX0_takeFresh_47 (by decide) ?_
        refine R _ _ _ _ dX0_takeFresh_51 (by decide) ⟨hu.1, hu.2.1, (tp_bz_t ?_).symm⟩
        apply Classical.byContradiction
        intro q
        exact c43 (hu.2.2.mpr (fun x' hx' => Classical.byContradiction (fun q1 => q ⟨x', hx', q1⟩)))
    · have h7 : u 7 = a 7 := hu.1 7 (by decide)
      refine tz_aload_0 C dX0_takeFresh_10 ?_
      refine tz_getA okX0 C 12 dX0_takeFresh_11 rfl q50 ?_
      refine tz_iload_3 C dX0_takeFresh_14 ?_
      refine tz_aload_0 C dX0_takeFresh_15 ?_
      refine tz_getA okX0 C 7 dX0_takeFresh_16 rfl q45 ?_
      refine tz_iload_1 C dX0_takeFresh_19 ?_
      refine tz_bipush (v := nI 16) C dX0_takeFresh_20 (by decide) ?_
      first | refine tz_imul_n C dX0_takeFresh_22 ?_ | refine tz_imul C dX0_takeFresh_22 ?_
      refine tz_iload_3 C dX0_takeFresh_23 ?_
      first | refine tz_iadd_n C dX0_takeFresh_24 ?_ | refine tz_iadd C dX0_takeFresh_24 ?_
      refine tz_iald okX0 C dX0_takeFresh_25 rfl ?_
      refine tz_iast okX0 C dX0_takeFresh_26 rfl ?_
      refine tz_iload_2 C dX0_takeFresh_27 ?_
      refine tz_aload_0 C dX0_takeFresh_28 ?_
      refine tz_getA okX0 C 12 dX0_takeFresh_29 rfl q50 ?_
      refine tz_iload_3 C dX0_takeFresh_32 ?_
      refine tz_iald okX0 C dX0_takeFresh_33 rfl ?_
      refine tz_ior C dX0_takeFresh_34 ?_
      refine tz_istore_2 C dX0_takeFresh_35 ?_
      refine tz_iinc_3_n C dX0_takeFresh_36 ?_
      refine tz_goto (tgt := 4) C dX0_takeFresh_39 (by decide) ?_
      refine ih c7 _ _ ⟨fun k hk => ?_, fun x' hx' => ?_, ?_⟩
      · rw [tz_sw_o _ _ _ hk]; exact hu.1 k hk
      · rw [tz_sw_at, h7]
        by_cases hxx : x' = x
        · simp [hxx]
        · simp only [hxx, if_false]; exact hu.2.1 x' (by omega)
      · rw [tz_sw_kj, tp_or0, hu.2.2, h7]
        constructor
        · rintro ⟨h1, h2⟩ x' hx'
          rcases Nat.lt_or_ge x' x with q | q
          · exact h1 x' q
          · rw [show x' = x by omega]; exact h2
        · intro h; exact ⟨fun x' hx' => h x' (by omega), h x (by omega)⟩
  exact loop 0 (by decide) (nI 0) a ⟨fun _ _ => rfl, fun x' hx' => absurd hx' (Nat.not_lt_zero _), ⟨fun _ x' hx' => absurd hx' (Nat.not_lt_zero _), fun _ => nI_0⟩⟩
theorem mX0_send {L e : Nat} (hL : L ≤ 16) (he : e = 0 ∨ e = 1) (t : Int32) (a : tz_S) (en : Prop) (h0 : a 0 0 = nI L) (hen : a 11 0 = tp_bz en) : tz_Mv IX0 yX0_send cX0_send 6 1 [t, nI e] a (fun u => (∀ k, k ≠ 8 → k ≠ 11 → u k = a k) ∧ u 11 0 = tp_bz (en ∨ (tp_nw L t ∧ ∃ x, x < 16 ∧ ¬ a (13 + e) x = 0)) ∧ ∀ i, i < 256 → ∀ y, tp_bt (u 8 i) y = true ↔ tp_bt (a 8 i) y = true ∨ (t = nI (i / 16) ∧ i / 16 < L ∧ tp_bt (a (13 + e) (i % 16)) y = true)) := by
  refine tz_enterv (by decide) rfl (Nat.le_of_ble_eq_true rfl) (fun E C R => ?_)
  show tz_Z _ E 0 [some (.ref (tz_h E 0)), some (.int t), some (.int (nI e)), none, none, none] [] _
  refine tz_aload_0 C dX0_send_0 ?_
  refine tz_iload_1 C dX0_send_1 ?_
  refine tz_call1 okX0 C vX0_noInstruction (mX0_noInstruction t a) dX0_send_2 (fun r u hu => ?_)
  obtain ⟨rfl, hr⟩ := hu
  have hr : r = tp_bz (tp_nw L t) := by rw [hr, h0]; rfl
  subst hr
  refine tz_istore_3 C dX0_send_5 ?_
  refine tz_iconst (v := nI 0) C dX0_send_6 (by decide) ?_
  refine tz_istore_4 C dX0_send_7 ?_
  rcases tp_bz_or (tp_nw L t) with ⟨nw, hz⟩ | ⟨nw, hz⟩
  · rw [hz]
    have loop : ∀ x, x ≤ 16 → ∀ (o5 : Option Value) (w : tz_S), ((∀ k, k ≠ 11 → w k = u k) ∧ w 11 0 = tp_bz (en ∨ ∃ x', x' < x ∧ ¬ u (13 + e) x' = 0)) → tz_Z IX0 E 9 [some (.ref (tz_h E 0)), some (.int t), some (.int (nI e)), some (.int (nI 1)), some (.int (nI x)), o5] [] w := by
      refine tz_upto 16 (fun x hx ih => ?_)
      intro o5 w hw
      have tail : tz_Z IX0 E 37 [some (.ref (tz_h E 0)), some (.int t), some (.int (nI e)), some (.int (nI 1)), some (.int (nI x)), o5] [.int (w (13 + e) x)] w ∨ ¬ x < 16 := by
        rcases Nat.lt_or_ge x 16 with hx16 | hx16
        · refine Or.inl ?_
          have hrow : w (13 + e) x = u (13 + e) x := by rw [hw.1 (13 + e) (by omega)]
          refine tz_istore_5 C dX0_send_37 ?_
          refine tz_iload_5 C dX0_send_39 ?_
          refine tz_if_eq (tgt := 53) C dX0_send_41 (by decide) (fun c41 => ?_) (fun c41 => ?_)
          · skip
            refine tz_iload_3 C dX0_send_53 ?_
            refine tz_if_ne (tgt := 74) C dX0_send_54 (by decide) (fun c54 => ?_) (fun c54 => ?_)
            · skip
              refine tz_iinc_4_n C dX0_send_74 ?_
              refine tz_goto (tgt := 9) C dX0_send_77 (by decide) ?_
              refine ih hx16 _ w ⟨hw.1, hw.2.trans (tp_bz_cg (or_congr Iff.rfl ⟨fun ⟨x', h1, h2⟩ => ⟨x', by omega, h2⟩, fun ⟨x', h1, h2⟩ => ⟨x', ?_, h2⟩⟩))⟩
              rcases Nat.lt_or_ge x' x with q | q
              · exact q
              · exact absurd (by rw [show x' = x by omega, ← hrow]; exact c41) h2
            · exact absurd c54 tp_n10
          · skip
            refine tz_iload_3 C dX0_send_44 ?_
            refine tz_if_eq (tgt := 53) C dX0_send_45 (by decide) (fun c45 => ?_) (fun c45 => ?_)
            · exact absurd c45 tp_n10
            · skip
              refine tz_aload_0 C dX0_send_48 ?_
              refine tz_iconst (v := nI 1) C dX0_send_49 (by decide) ?_
              refine tz_putI okX0 C 11 dX0_send_50 rfl (by decide) q49 (by first | rfl | decide) (by first | rfl | decide) ?_
              refine tz_iload_3 C dX0_send_53 ?_
              refine tz_if_ne (tgt := 74) C dX0_send_54 (by decide) (fun c54 => ?_) (fun c54 => ?_)
              · skip
                refine tz_iinc_4_n C dX0_send_74 ?_
                refine tz_goto (tgt := 9) C dX0_send_77 (by decide) ?_
                refine ih hx16 _ _ ⟨fun k hk => by rw [tz_sw_o _ _ _ hk]; exact hw.1 k hk, ?_⟩
                rw [tz_sw_kj]
                exact (tp_bz_t (Or.inr ⟨x, by omega, by rw [← hrow]; exact c41⟩)).symm
              · exact absurd c54 tp_n10
        · exact Or.inr (by omega)
      refine tz_iload_4 C dX0_send_9 ?_
      refine tz_bipush (v := nI 16) C dX0_send_11 (by decide) ?_
      refine tz_icmp_ge_n (tgt := 80) C dX0_send_13 (by decide) (fun c13 => ?_) (fun c13 => ?_)
      · refine R _ _ _ dX0_send_80 ⟨fun k h1 h2 => hw.1 k h2, ?_, fun i hi y => ?_⟩
        · rw [hw.2]
          refine tp_bz_cg (or_congr Iff.rfl ⟨fun ⟨x', h1, h2⟩ => ⟨nw, x', by omega, h2⟩, fun ⟨_, x', h1, h2⟩ => ⟨x', by omega, h2⟩⟩)
        · rw [hw.1 8 (by decide)]
          refine ⟨Or.inl, fun q => q.elim id (fun ⟨h1, h2, _⟩ => ?_)⟩
          rw [h1, tp_nw_nI (by omega) (by omega)] at nw
          omega
      · have tail := tail.resolve_right (fun q => q c13)
        rcases he with rfl | rfl
        · skip
          refine tz_iload_2 C dX0_send_16 ?_
          refine tz_if_eq (tgt := 30) C dX0_send_17 (by decide) (fun c17 => ?_) (fun c17 => ?_)
          · skip
            refine tz_aload_0 C dX0_send_30 ?_
            refine tz_getA okX0 C 13 dX0_send_31 rfl q51 ?_
            refine tz_iload_4 C dX0_send_34 ?_
            refine tz_iald okX0 C dX0_send_36 rfl ?_
            exact tail
          · exact absurd nI_0 c17
        · skip
          refine tz_iload_2 C dX0_send_16 ?_
          refine tz_if_eq (tgt := 30) C dX0_send_17 (by decide) (fun c17 => ?_) (fun c17 => ?_)
          · exact absurd c17 tp_n10
          · skip
            refine tz_aload_0 C dX0_send_20 ?_
            refine tz_getA okX0 C 14 dX0_send_21 rfl q52 ?_
            refine tz_iload_4 C dX0_send_24 ?_
            refine tz_iald okX0 C dX0_send_26 rfl ?_
            refine tz_goto (tgt := 37) C dX0_send_27 (by decide) ?_
            exact tail
    exact loop 0 (by decide) none u ⟨fun _ _ => rfl, hen.trans (tp_bz_cg ⟨Or.inl, fun q => q.elim id (fun ⟨x', h1, _⟩ => absurd h1 (Nat.not_lt_zero _))⟩)⟩
  · rw [hz]
    obtain ⟨q, hq, rfl⟩ := tp_nw_not (by omega) nw
    have loop : ∀ x, x ≤ 16 → ∀ (o5 : Option Value) (w : tz_S), ((∀ k, k ≠ 8 → w k = u k) ∧ ∀ i, i < 256 → ∀ y, tp_bt (w 8 i) y = true ↔ tp_bt (u 8 i) y = true ∨ (i / 16 = q ∧ i % 16 < x ∧ tp_bt (u (13 + e) (i % 16)) y = true)) → tz_Z IX0 E 9 [some (.ref (tz_h E 0)), some (.int (nI q)), some (.int (nI e)), some (.int (nI 0)), some (.int (nI x)), o5] [] w := by
      refine tz_upto 16 (fun x hx ih => ?_)
      intro o5 w hw
      have tail : tz_Z IX0 E 37 [some (.ref (tz_h E 0)), some (.int (nI q)), some (.int (nI e)), some (.int (nI 0)), some (.int (nI x)), o5] [.int (w (13 + e) x)] w ∨ ¬ x < 16 := by
        rcases Nat.lt_or_ge x 16 with hx16 | hx16
        · refine Or.inl ?_
          have hrow : w (13 + e) x = u (13 + e) x := by rw [hw.1 (13 + e) (by omega)]
          have t53 : tz_Z IX0 E 53 [some (.ref (tz_h E 0)), some (.int (nI q)), some (.int (nI e)), some (.int (nI 0)), some (.int (nI x)), some (.int (w (13 + e) x))] [] w := by
            refine tz_iload_3 C dX0_send_53 ?_
            refine tz_if_ne (tgt := 74) C dX0_send_54 (by decide) (fun c54 => ?_) (fun c54 => ?_)
            · exact absurd nI_0 c54
            · skip
              refine tz_aload_0 C dX0_send_57 ?_
              refine tz_getA okX0 C 8 dX0_send_58 rfl q46 ?_
              refine tz_iload_1 C dX0_send_61 ?_
              refine tz_bipush (v := nI 16) C dX0_send_62 (by decide) ?_
              first | refine tz_imul_n C dX0_send_64 ?_ | refine tz_imul C dX0_send_64 ?_
              refine tz_iload_4 C dX0_send_65 ?_
              first | refine tz_iadd_n C dX0_send_67 ?_ | refine tz_iadd C dX0_send_67 ?_
              refine tz_dup2 C dX0_send_68 rfl rfl ?_
              refine tz_iald okX0 C dX0_send_69 rfl ?_
              refine tz_iload_5 C dX0_send_70 ?_
              refine tz_ior C dX0_send_72 ?_
              refine tz_iast okX0 C dX0_send_73 rfl ?_
              refine tz_iinc_4_n C dX0_send_74 ?_
              refine tz_goto (tgt := 9) C dX0_send_77 (by decide) ?_
              refine ih hx16 _ _ ⟨fun k hk => by rw [tz_sw_o _ _ _ hk]; exact hw.1 k hk, fun i hi y => ?_⟩
              rw [tz_orv, hw.2 i hi y, or_assoc, hrow]
              refine or_congr Iff.rfl ⟨?_, ?_⟩
              · rintro (⟨h1, h2, h3⟩ | ⟨h1, h2⟩)
                · exact ⟨h1, by omega, h3⟩
                · obtain ⟨d1, d2⟩ := tp_dm (p := q) hx16
                  rw [h1, d1, d2]
                  exact ⟨rfl, by omega, h2⟩
              · rintro ⟨h1, h2, h3⟩
                rcases Nat.lt_or_ge (i % 16) x with g | g
                · exact Or.inl ⟨h1, g, h3⟩
                · have g : i % 16 = x := by omega
                  rw [g] at h3
                  exact Or.inr ⟨by omega, h3⟩
          refine tz_istore_5 C dX0_send_37 ?_
          refine tz_iload_5 C dX0_send_39 ?_
          refine tz_if_eq (tgt := 53) C dX0_send_41 (by decide) (fun c41 => ?_) (fun c41 => ?_)
          · exact t53
          · skip
            refine tz_iload_3 C dX0_send_44 ?_
            refine tz_if_eq (tgt := 53) C dX0_send_45 (by decide) (fun c45 => ?_) (fun c45 => ?_)
            · exact t53
            · exact absurd nI_0 c45
        · exact Or.inr (by omega)
      refine tz_iload_4 C dX0_send_9 ?_
      refine tz_bipush (v := nI 16) C dX0_send_11 (by decide) ?_
      refine tz_icmp_ge_n (tgt := 80) C dX0_send_13 (by decide) (fun c13 => ?_) (fun c13 => ?_)
      · refine R _ _ _ dX0_send_80 ⟨fun k h1 h2 => hw.1 k h1, ?_, fun i hi y => ?_⟩
        · rw [hw.1 11 (by decide), hen]
          exact tp_bz_cg ⟨Or.inl, fun g => g.elim id (fun g => absurd g.1 nw)⟩
        · rw [hw.2 i hi y]
          refine or_congr Iff.rfl ⟨fun ⟨h1, h2, h3⟩ => ⟨by rw [h1], by omega, h3⟩, fun ⟨h1, h2, h3⟩ => ⟨((nI_eq (by omega) (by omega)).mp h1).symm, by omega, h3⟩⟩
      · have tail := tail.resolve_right (fun q => q c13)
        rcases he with rfl | rfl
        · skip
          refine tz_iload_2 C dX0_send_16 ?_
          refine tz_if_eq (tgt := 30) C dX0_send_17 (by decide) (fun c17 => ?_) (fun c17 => ?_)
          · skip
            refine tz_aload_0 C dX0_send_30 ?_
            refine tz_getA okX0 C 13 dX0_send_31 rfl q51 ?_
            refine tz_iload_4 C dX0_send_34 ?_
            refine tz_iald okX0 C dX0_send_36 rfl ?_
            exact tail
          · exact absurd nI_0 c17
        · skip
          refine tz_iload_2 C dX0_send_16 ?_
          refine tz_if_eq (tgt := 30) C dX0_send_17 (by decide) (fun c17 => ?_) (fun c17 => ?_)
          · exact absurd c17 tp_n10
          · skip
            refine tz_aload_0 C dX0_send_20 ?_
            refine tz_getA okX0 C 14 dX0_send_21 rfl q52 ?_
            refine tz_iload_4 C dX0_send_24 ?_
            refine tz_iald okX0 C dX0_send_26 rfl ?_
            refine tz_goto (tgt := 37) C dX0_send_27 (by decide) ?_
            exact tail
    exact loop 0 (by decide) none u ⟨fun _ _ => rfl, fun i hi y => ⟨Or.inl, fun g => g.elim id (fun ⟨_, h, _⟩ => absurd h (Nat.not_lt_zero _))⟩⟩
theorem mX0_passOn {P : tp_P} (okP : tp_okP P) (a : tz_S) (hP : tp_has P a) (en : Prop) (hen : a 11 0 = tp_bz en) (hw : ∀ i, i < 256 → tp_wf (a 7 i)) : tz_Mv IX0 yX0_passOn cX0_passOn 3 4 [] a (fun u => (∀ k, k ≤ 7 ∨ k = 9 ∨ k = 10 → u k = a k) ∧ u 11 0 = tp_bz (en ∨ ∃ i y, i < 256 ∧ tp_bt (a 7 i) y = true ∧ tp_enp P i y) ∧ ∀ i, i < 256 → ∀ y, tp_bt (u 8 i) y = true ↔ ∃ i0 y0, i0 < 256 ∧ tp_bt (a 7 i0) y0 = true ∧ tp_stp P i0 y0 i y) := by
  obtain ⟨okL, okO, -⟩ := okP
  obtain ⟨hP0, hP1, hP2, -, -⟩ := hP
  refine tz_enterv (by decide) rfl (Nat.le_of_ble_eq_true rfl) (fun E C R => ?_)
  show tz_Z _ E 0 [some (.ref (tz_h E 0)), none, none] [] _
  refine tz_iconst (v := nI 0) C dX0_passOn_0 (by decide) ?_
  refine tz_istore_1 C dX0_passOn_1 ?_
  have body : ∀ u : tz_S, ((∀ k, k ≠ 8 → u k = a k) ∧ ∀ i, i < 256 → u 8 i = nI 0) → tz_Z IX0 E 22 [some (.ref (tz_h E 0)), some (.int (nI 256)), none] [] u := by
    intro u0 h0
    refine tz_iconst (v := nI 0) C dX0_passOn_22 (by decide) ?_
    refine tz_istore_1 C dX0_passOn_23 ?_
    have loop : ∀ p, p ≤ P.1 → ∀ (o2 : Option Value) (u : tz_S), ((∀ k, k ≤ 7 ∨ k = 9 ∨ k = 10 → u k = a k) ∧ u 11 0 = tp_bz (en ∨ ∃ i y, i < p * 16 ∧ tp_bt (a 7 i) y = true ∧ tp_enp P i y) ∧ ∀ i, i < 256 → ∀ y, tp_bt (u 8 i) y = true ↔ ∃ i0 y0, i0 < p * 16 ∧ tp_bt (a 7 i0) y0 = true ∧ tp_stp P i0 y0 i y) → tz_Z IX0 E 24 [some (.ref (tz_h E 0)), some (.int (nI p)), o2] [] u := by
      refine tz_upto P.1 (fun p hp ih => ?_)
      intro o2 u hu
      obtain ⟨u1, u2, u3⟩ := hu
      have e0 : u 0 0 = nI P.1 := by rw [u1 0 (by decide)]; exact hP0
      refine tz_iload_1 C dX0_passOn_24 ?_
      refine tz_aload_0 C dX0_passOn_25 ?_
      refine tz_getI okX0 C 0 dX0_passOn_26 rfl (by decide) q38 ?_
      refine tz_top (e0) ?_
      refine tz_icmp_ge_n (tgt := 88) C dX0_passOn_29 (by decide) (fun c29 => ?_) (fun c29 => ?_)
      · refine R _ _ _ dX0_passOn_88 ⟨u1, u2.trans (tp_bz_cg (or_congr Iff.rfl ⟨fun ⟨i, y, h1, h2⟩ => ⟨i, y, by omega, h2⟩, fun ⟨i, y, h1, h2, h3⟩ => ⟨i, y, ?_, h2, h3⟩⟩)), fun i hi y => (u3 i hi y).trans ⟨fun ⟨i0, y0, h1, h2⟩ => ⟨i0, y0, by omega, h2⟩, fun ⟨i0, y0, h1, h2, h3⟩ => ⟨i0, y0, ?_, h2, h3⟩⟩⟩
        · have := h3.1; omega
        · have := h3.1; omega
      · skip
        refine tz_aload_0 C dX0_passOn_32 ?_
        refine tz_iload_1 C dX0_passOn_33 ?_
        refine tz_call1 okX0 C vX0_takeFresh (mX0_takeFresh (show p < 16 by omega) u) dX0_passOn_34 (fun r v hv => ?_)
        obtain ⟨v1, v2, hr⟩ := hv
        have e7 : u 7 = a 7 := u1 7 (by decide)
        rw [e7] at v2 hr
        rcases tp_bz_or (∃ x, x < 16 ∧ ¬ a 7 (p * 16 + x) = 0) with ⟨sm, hz⟩ | ⟨sm, hz⟩
        · rw [hz] at hr
          subst hr
          refine tz_istore_2 C dX0_passOn_37 ?_
          refine tz_iload_2 C dX0_passOn_38 ?_
          refine tz_if_eq (tgt := 82) C dX0_passOn_39 (by decide) (fun c39 => ?_) (fun c39 => ?_)
          · exact absurd c39 tp_n10
          · skip
            refine tz_aload_0 C dX0_passOn_42 ?_
            refine tz_iload_1 C dX0_passOn_43 ?_
            have w1 : v 1 p = nI (P.2.1 p) := by rw [v1 1 (by decide), u1 1 (by decide)]; exact hP1 p
            have w2 : v 2 p = P.2.2.1 p := by rw [v1 2 (by decide), u1 2 (by decide)]; exact hP2 p
            refine tz_callv1 okX0 C vX0_transfer (mX0_transfer (show p < 16 by omega) v w1 (okO p) (fun x hx => by rw [v2 x hx]; exact hw _ (by omega))) dX0_passOn_44 (fun w hw1 => ?_)
            rw [w2] at hw1
            obtain ⟨t1, t2, t3, -⟩ := hw1
            have hn : ∀ x', x' < 16 → ∀ y', tp_bt (w 13 x') y' = true ↔ ∃ x y, x < 16 ∧ tp_bt (a 7 (p * 16 + x)) y = true ∧ tp_mv (P.2.1 p) (P.2.2.1 p) x y x' y' ∧ ¬ tp_tk (P.2.1 p) x y := fun x' hx' y' => by
              rw [t2 x' hx' y']
              refine ⟨fun ⟨x, y, h1, h2, h3⟩ => ⟨x, y, h1, by rw [← v2 x h1]; exact h2, h3⟩, fun ⟨x, y, h1, h2, h3⟩ => ⟨x, y, h1, by rw [v2 x h1]; exact h2, h3⟩⟩
            have ha : ∀ x', x' < 16 → ∀ y', tp_bt (w 14 x') y' = true ↔ ∃ x y, x < 16 ∧ tp_bt (a 7 (p * 16 + x)) y = true ∧ tp_mv (P.2.1 p) (P.2.2.1 p) x y x' y' ∧ tp_tk (P.2.1 p) x y := fun x' hx' y' => by
              rw [t3 x' hx' y']
              refine ⟨fun ⟨x, y, h1, h2, h3⟩ => ⟨x, y, h1, by rw [← v2 x h1]; exact h2, h3⟩, fun ⟨x, y, h1, h2, h3⟩ => ⟨x, y, h1, by rw [v2 x h1]; exact h2, h3⟩⟩
            have wk : ∀ k, k ≠ 12 → k ≠ 13 → k ≠ 14 → k ≠ 15 → w k = u k := fun k k1 k2 k3 k4 => (t1 k k2 k3 k4).trans (v1 k k1)
            refine tz_aload_0 C dX0_passOn_47 ?_
            refine tz_iload_1 C dX0_passOn_48 ?_
            refine tz_iconst (v := nI 1) C dX0_passOn_49 (by decide) ?_
            first | refine tz_iadd_n C dX0_passOn_50 ?_ | refine tz_iadd C dX0_passOn_50 ?_
            refine tz_iconst (v := nI 0) C dX0_passOn_51 (by decide) ?_
            refine tz_callv2 okX0 C vX0_send (mX0_send (L := P.1) (e := 0) okL (Or.inl rfl) _ w (en ∨ ∃ i y, i < p * 16 ∧ tp_bt (a 7 i) y = true ∧ tp_enp P i y) (by rw [wk 0 (by decide) (by decide) (by decide) (by decide)]; exact e0) (by rw [wk 11 (by decide) (by decide) (by decide) (by decide)]; exact u2)) dX0_passOn_52 (fun s1 hs1 => ?_)
            obtain ⟨p1, p2, p3⟩ := hs1
            have s2 : s1 2 p = P.2.2.1 p := by rw [p1 2 (by decide) (by decide), wk 2 (by decide) (by decide) (by decide) (by decide), u1 2 (by decide)]; exact hP2 p
            refine tz_aload_0 C dX0_passOn_55 ?_
            refine tz_aload_0 C dX0_passOn_56 ?_
            refine tz_getA okX0 C 2 dX0_passOn_57 rfl q40 ?_
            refine tz_iload_1 C dX0_passOn_60 ?_
            refine tz_iald okX0 C dX0_passOn_61 rfl ?_
            refine tz_top (s2) ?_
            refine tz_iconst (v := nI 1) C dX0_passOn_62 (by decide) ?_
            refine tz_callv2 okX0 C vX0_send (mX0_send (L := P.1) (e := 1) okL (Or.inr rfl) _ s1 _ (by rw [p1 0 (by decide) (by decide), wk 0 (by decide) (by decide) (by decide) (by decide)]; exact e0) p2) dX0_passOn_63 (fun s3 hs3 => ?_)
            obtain ⟨p4, p5, p6⟩ := hs3
            have k14 : s1 (13 + 1) = w 14 := p1 14 (by decide) (by decide)
            have keep : ∀ k, k ≤ 7 ∨ k = 9 ∨ k = 10 → s3 k = a k := fun k hk => by rw [p4 k (by omega) (by omega), p1 k (by omega) (by omega), wk k (by omega) (by omega) (by omega) (by omega)]; exact u1 k hk
            have s4 : s3 1 p = nI (P.2.1 p) := by rw [keep 1 (by decide)]; exact hP1 p
            have bits : ∀ i, i < 256 → ∀ y, tp_bt (s3 8 i) y = true ↔ ∃ i0 y0, i0 < (p + 1) * 16 ∧ tp_bt (a 7 i0) y0 = true ∧ tp_stp P i0 y0 i y := fun i hi y => by
              rw [p6 i hi y, p3 i hi y, wk 8 (by decide) (by decide) (by decide) (by decide), u3 i hi y, k14, or_assoc, tp_passA okL c29 hn ha]
              constructor
              · rintro (⟨i0, y0, h1, h2⟩ | ⟨x, y0, h1, h2⟩)
                · exact ⟨i0, y0, by omega, h2⟩
                · exact ⟨p * 16 + x, y0, by omega, h2⟩
              · rintro ⟨i0, y0, h1, h2⟩
                rcases Nat.lt_or_ge i0 (p * 16) with q | q
                · exact Or.inl ⟨i0, y0, q, h2⟩
                · refine Or.inr ⟨i0 - p * 16, y0, by omega, ?_⟩
                  rw [show p * 16 + (i0 - p * 16) = i0 by omega]; exact h2
            have ends : (((en ∨ ∃ i y, i < p * 16 ∧ tp_bt (a 7 i) y = true ∧ tp_enp P i y) ∨ (tp_nw P.1 (nI (p + 1)) ∧ ∃ x, x < 16 ∧ ¬ w 13 x = 0)) ∨ (tp_nw P.1 (P.2.2.1 p) ∧ ∃ x, x < 16 ∧ ¬ w 14 x = 0)) ∨ P.2.1 p = 14 ↔ (en ∨ ∃ i y, i < (p + 1) * 16 ∧ tp_bt (a 7 i) y = true ∧ tp_enp P i y) := by
              rw [or_assoc, or_assoc, or_assoc, tp_passB okL c29 sm hn ha]
              refine or_congr Iff.rfl ⟨?_, ?_⟩
              · rintro (⟨i0, y0, h1, h2⟩ | ⟨x, y0, h1, h2⟩)
                · exact ⟨i0, y0, by omega, h2⟩
                · exact ⟨p * 16 + x, y0, by omega, h2⟩
              · rintro ⟨i0, y0, h1, h2⟩
                rcases Nat.lt_or_ge i0 (p * 16) with q | q
                · exact Or.inl ⟨i0, y0, q, h2⟩
                · refine Or.inr ⟨i0 - p * 16, y0, by omega, ?_⟩
                  rw [show p * 16 + (i0 - p * 16) = i0 by omega]; exact h2
            have o14 := okO p
            rw [k14] at p5
            refine tz_aload_0 C dX0_passOn_66 ?_
            refine tz_getA okX0 C 1 dX0_passOn_67 rfl q39 ?_
            refine tz_iload_1 C dX0_passOn_70 ?_
            refine tz_iald okX0 C dX0_passOn_71 rfl ?_
            refine tz_top (s4) ?_
            refine tz_bipush (v := nI 14) C dX0_passOn_72 (by decide) ?_
            refine tz_icmp_ne_n (tgt := 82) C dX0_passOn_74 (by decide) (fun c74 => ?_) (fun c74 => ?_)
            · skip
              refine tz_iinc_1_n C dX0_passOn_82 ?_
              refine tz_goto (tgt := 24) C dX0_passOn_85 (by decide) ?_
              exact ih c29 _ s3 ⟨keep, p5.trans (tp_bz_cg (Iff.trans ⟨Or.inl, fun q => q.elim id (fun q => absurd q c74)⟩ ends)), bits⟩
            · skip
              refine tz_aload_0 C dX0_passOn_77 ?_
              refine tz_iconst (v := nI 1) C dX0_passOn_78 (by decide) ?_
              refine tz_putI okX0 C 11 dX0_passOn_79 rfl (by decide) q49 (by first | rfl | decide) (by first | rfl | decide) ?_
              refine tz_iinc_1_n C dX0_passOn_82 ?_
              refine tz_goto (tgt := 24) C dX0_passOn_85 (by decide) ?_
              refine ih c29 _ _ ⟨fun k hk => by rw [tz_sw_o _ _ _ (by omega)]; exact keep k hk, ?_, fun i hi y => by rw [tz_sw_o _ _ _ (by decide)]; exact bits i hi y⟩
              rw [tz_sw_kj]
              exact (tp_bz_t (ends.mp (Or.inr c74))).symm
        · rw [hz] at hr
          subst hr
          have none16 : ∀ i y, p * 16 ≤ i → i < (p + 1) * 16 → ¬ tp_bt (a 7 i) y = true := fun i y h1 h2 h3 => sm ⟨i - p * 16, by omega, by rw [show p * 16 + (i - p * 16) = i by omega]; exact tp_ne0.mpr ⟨y, h3⟩⟩
          refine tz_istore_2 C dX0_passOn_37 ?_
          refine tz_iload_2 C dX0_passOn_38 ?_
          refine tz_if_eq (tgt := 82) C dX0_passOn_39 (by decide) (fun c39 => ?_) (fun c39 => ?_)
          · skip
            refine tz_iinc_1_n C dX0_passOn_82 ?_
            refine tz_goto (tgt := 24) C dX0_passOn_85 (by decide) ?_
            refine ih c29 _ v ⟨fun k hk => (v1 k (by omega)).trans (u1 k hk), ?_, fun i hi y => ?_⟩
            · rw [v1 11 (by decide), u2]
              refine tp_bz_cg (or_congr Iff.rfl ⟨fun ⟨i, y, h1, h2⟩ => ⟨i, y, by omega, h2⟩, fun ⟨i, y, h1, h2, h3⟩ => ⟨i, y, ?_, h2, h3⟩⟩)
              rcases Nat.lt_or_ge i (p * 16) with q | q
              · exact q
              · exact absurd h2 (none16 i y q h1)
            · rw [v1 8 (by decide), u3 i hi y]
              refine ⟨fun ⟨i, y, h1, h2⟩ => ⟨i, y, by omega, h2⟩, fun ⟨i, y, h1, h2, h3⟩ => ⟨i, y, ?_, h2, h3⟩⟩
              rcases Nat.lt_or_ge i (p * 16) with q | q
              · exact q
              · exact absurd h2 (none16 i y q h1)
          · exact absurd nI_0 c39
    refine loop 0 (Nat.zero_le _) none u0 ⟨fun k hk => h0.1 k (by omega), ?_, fun i hi y => ?_⟩
    · rw [h0.1 11 (by decide), hen]
      exact tp_bz_cg ⟨Or.inl, fun q => q.elim id (fun ⟨i, y, h, _⟩ => absurd h (by omega))⟩
    · rw [h0.2 i hi, tp_bt_n0]
      exact ⟨fun q => (by cases q), fun ⟨i, y, h, _⟩ => absurd h (by omega)⟩
  have loop : ∀ i, i ≤ 256 → ∀ u : tz_S, ((∀ k, k ≠ 8 → u k = a k) ∧ ∀ i', i' < i → u 8 i' = nI 0) → tz_Z IX0 E 2 [some (.ref (tz_h E 0)), some (.int (nI i)), none] [] u := by
    refine tz_upto 256 (fun i hi ih => ?_)
    intro u hu
    refine tz_iload_1 C dX0_passOn_2 ?_
    refine tz_sipush (v := nI 256) C dX0_passOn_3 (by decide) ?_
    refine tz_icmp_ge_n (tgt := 22) C dX0_passOn_6 (by decide) (fun c6 => ?_) (fun c6 => ?_)
    · have hi256 : i = 256 := by omega
      subst hi256
      exact body u hu
    · skip
      refine tz_aload_0 C dX0_passOn_9 ?_
      refine tz_getA okX0 C 8 dX0_passOn_10 rfl q46 ?_
      refine tz_iload_1 C dX0_passOn_13 ?_
      refine tz_iconst (v := nI 0) C dX0_passOn_14 (by decide) ?_
      refine tz_iast okX0 C dX0_passOn_15 rfl ?_
      refine tz_iinc_1_n C dX0_passOn_16 ?_
      refine tz_goto (tgt := 2) C dX0_passOn_19 (by decide) ?_
      refine ih c6 _ ⟨fun k hk => by rw [tz_sw_o _ _ _ hk]; exact hu.1 k hk, fun i' hi' => ?_⟩
      rw [tz_sw_at]
      by_cases h : i' = i
      · simp [h]
      · simp only [h, if_false]; exact hu.2 i' (by omega)
  exact loop 0 (by decide) a ⟨fun _ _ => rfl, fun i' hi' => absurd hi' (Nat.not_lt_zero _)⟩
/-- what is new of what comes, at i -/
def tp_nw8 (a : tz_S) (i : Nat) : Int32 := a 8 i &&& (a 6 i ^^^ (-1))
theorem tp_nw8_bt (a : tz_S) (i y : Nat) : tp_bt (tp_nw8 a i) y = true ↔ tp_bt (a 8 i) y = true ∧ ¬ tp_bt (a 6 i) y = true := by
  unfold tp_nw8
  rw [tp_bt_and, tp_bt_not]
  constructor
  · intro h; simp at h; exact ⟨h.1, by simp [h.2.2]⟩
  · rintro ⟨h1, h2⟩
    have := tp_bt_lt h1
    simp [h1, h2, this]
theorem mX0_settle {lv : Nat} (hlv : lv ≤ 4096) (a : tz_S) : tz_Mi IX0 yX0_settle cX0_settle 4 .boolean 0 [nI lv] a (fun r u => (∀ k, k ≠ 6 → k ≠ 7 → k ≠ 10 → u k = a k) ∧ (∀ i, i < 256 → u 7 i = tp_nw8 a i ∧ u 6 i = a 6 i ||| tp_nw8 a i) ∧ (∀ p, p < 16 → ((a 10 p = -5 ∧ ∃ i, i < 256 ∧ i / 16 = p ∧ ¬ tp_nw8 a i = 0) → u 10 p = nI lv) ∧ (¬ (a 10 p = -5 ∧ ∃ i, i < 256 ∧ i / 16 = p ∧ ¬ tp_nw8 a i = 0) → u 10 p = a 10 p)) ∧ r = tp_bz (∃ i, i < 256 ∧ ¬ tp_nw8 a i = 0)) := by
  have hlv5 : ¬ nI lv = -5 := fun q => by
    have := nI_pos' (n := lv) (by omega)
    rw [q] at this
    exact absurd this (by decide)
  refine tz_enter (by decide) rfl (Nat.le_of_ble_eq_true rfl) (fun E C R => ?_)
  show tz_Z _ E 0 [some (.ref (tz_h E 0)), some (.int (nI lv)), none, none] [] _
  refine tz_iconst (v := nI 0) C dX0_settle_0 (by decide) ?_
  refine tz_istore_2 C dX0_settle_1 ?_
  refine tz_iconst (v := nI 0) C dX0_settle_2 (by decide) ?_
  refine tz_istore_3 C dX0_settle_3 ?_
  have loop : ∀ i, i ≤ 256 → ∀ (s : Int32) (u : tz_S), ((∀ k, k ≠ 6 → k ≠ 7 → k ≠ 10 → u k = a k) ∧ (∀ i', i' < i → u 7 i' = tp_nw8 a i' ∧ u 6 i' = a 6 i' ||| tp_nw8 a i') ∧ (∀ i', i ≤ i' → u 6 i' = a 6 i') ∧ (∀ p, p < 16 → ((a 10 p = -5 ∧ ∃ i', i' < i ∧ i' / 16 = p ∧ ¬ tp_nw8 a i' = 0) → u 10 p = nI lv) ∧ (¬ (a 10 p = -5 ∧ ∃ i', i' < i ∧ i' / 16 = p ∧ ¬ tp_nw8 a i' = 0) → u 10 p = a 10 p)) ∧ s = tp_bz (∃ i', i' < i ∧ ¬ tp_nw8 a i' = 0)) → tz_Z IX0 E 4 [some (.ref (tz_h E 0)), some (.int (nI lv)), some (.int s), some (.int (nI i))] [] u := by
    refine tz_upto 256 (fun i hi ih => ?_)
    intro s u hu
    obtain ⟨u1, u2, u3, u4, us⟩ := hu
    refine tz_iload_3 C dX0_settle_4 ?_
    refine tz_sipush (v := nI 256) C dX0_settle_5 (by decide) ?_
    refine tz_icmp_ge_n (tgt := 88) C dX0_settle_8 (by decide) (fun c8 => ?_) (fun c8 => ?_)
    · have hi256 : i = 256 := by omega
      subst hi256
      refine tz_iload_2 C dX0_settle_88 ?_
      subst us
      exact R _ _ _ _ dX0_settle_89 (by first | rfl | decide | exact tp_bz_nar _) (⟨u1, u2, u4, rfl⟩)
    · have e8 : u 8 i = a 8 i := by rw [u1 8 (by decide) (by decide) (by decide)]
      have e6 : u 6 i = a 6 i := u3 i (Nat.le_refl _)
      have en : u 8 i &&& (u 6 i ^^^ (-1)) = tp_nw8 a i := by rw [e8, e6]; rfl
      have split : ∀ (q : Nat → Prop), (∃ i', i' < i + 1 ∧ q i' ∧ ¬ tp_nw8 a i' = 0) ↔ (∃ i', i' < i ∧ q i' ∧ ¬ tp_nw8 a i' = 0) ∨ (q i ∧ ¬ tp_nw8 a i = 0) := fun q => by
        constructor
        · rintro ⟨i', h1, h2⟩
          rcases Nat.lt_or_ge i' i with g | g
          · exact Or.inl ⟨i', g, h2⟩
          · rw [show i' = i by omega] at h2; exact Or.inr h2
        · rintro (⟨i', h1, h2⟩ | h2)
          · exact ⟨i', by omega, h2⟩
          · exact ⟨i, by omega, h2⟩
      have split1 : (∃ i', i' < i + 1 ∧ ¬ tp_nw8 a i' = 0) ↔ (∃ i', i' < i ∧ ¬ tp_nw8 a i' = 0) ∨ ¬ tp_nw8 a i = 0 := by
        have := split (fun _ => True)
        simpa using this
      refine tz_aload_0 C dX0_settle_11 ?_
      refine tz_getA okX0 C 7 dX0_settle_12 rfl q45 ?_
      refine tz_iload_3 C dX0_settle_15 ?_
      refine tz_aload_0 C dX0_settle_16 ?_
      refine tz_getA okX0 C 8 dX0_settle_17 rfl q46 ?_
      refine tz_iload_3 C dX0_settle_20 ?_
      refine tz_iald okX0 C dX0_settle_21 rfl ?_
      refine tz_aload_0 C dX0_settle_22 ?_
      refine tz_getA okX0 C 6 dX0_settle_23 rfl q44 ?_
      refine tz_iload_3 C dX0_settle_26 ?_
      refine tz_iald okX0 C dX0_settle_27 rfl ?_
      refine tz_iconst (v := -1) C dX0_settle_28 (by decide) ?_
      refine tz_ixor C dX0_settle_29 ?_
      refine tz_iand C dX0_settle_30 ?_
      refine tz_top (en) ?_
      refine tz_iast okX0 C dX0_settle_31 rfl ?_
      refine tz_aload_0 C dX0_settle_32 ?_
      refine tz_getA okX0 C 6 dX0_settle_33 rfl q44 ?_
      refine tz_iload_3 C dX0_settle_36 ?_
      refine tz_dup2 C dX0_settle_37 rfl rfl ?_
      refine tz_iald okX0 C dX0_settle_38 rfl ?_
      refine tz_aload_0 C dX0_settle_39 ?_
      refine tz_getA okX0 C 7 dX0_settle_40 rfl q45 ?_
      refine tz_iload_3 C dX0_settle_43 ?_
      refine tz_iald okX0 C dX0_settle_44 rfl ?_
      refine tz_ior C dX0_settle_45 ?_
      refine tz_iast okX0 C dX0_settle_46 rfl ?_
      refine tz_aload_0 C dX0_settle_47 ?_
      refine tz_getA okX0 C 7 dX0_settle_48 rfl q45 ?_
      refine tz_iload_3 C dX0_settle_51 ?_
      refine tz_iald okX0 C dX0_settle_52 rfl ?_
      have f7 : ∀ j, tz_sw (tz_sw u 7 i (tp_nw8 a i)) 6 i (tz_sw u 7 i (tp_nw8 a i) 6 i ||| tz_sw u 7 i (tp_nw8 a i) 7 i) 7 j = if j = i then tp_nw8 a i else u 7 j := fun j => by rw [tz_sw_o _ _ _ (by decide), tz_sw_at]
      have f6 : ∀ j, tz_sw (tz_sw u 7 i (tp_nw8 a i)) 6 i (tz_sw u 7 i (tp_nw8 a i) 6 i ||| tz_sw u 7 i (tp_nw8 a i) 7 i) 6 j = if j = i then a 6 i ||| tp_nw8 a i else u 6 j := fun j => by rw [tz_sw_at, tz_sw_o _ _ _ (by decide), tz_sw_kj, e6]
      have fk : ∀ k, k ≠ 6 → k ≠ 7 → tz_sw (tz_sw u 7 i (tp_nw8 a i)) 6 i (tz_sw u 7 i (tp_nw8 a i) 6 i ||| tz_sw u 7 i (tp_nw8 a i) 7 i) k = u k := fun k h1 h2 => by rw [tz_sw_o _ _ _ h1, tz_sw_o _ _ _ h2]
      refine tz_top ((f7 i).trans (if_pos rfl)) ?_
      generalize tz_sw (tz_sw u 7 i (tp_nw8 a i)) 6 i (tz_sw u 7 i (tp_nw8 a i) 6 i ||| tz_sw u 7 i (tp_nw8 a i) 7 i) = w at f7 f6 fk ⊢
      have w67 : ∀ i', i' < i + 1 → w 7 i' = tp_nw8 a i' ∧ w 6 i' = a 6 i' ||| tp_nw8 a i' := fun i' hi' => by
        rw [f7, f6]
        by_cases h : i' = i
        · simp [h]
        · simp only [h, if_false]; exact u2 i' (by omega)
      have w6 : ∀ i', i + 1 ≤ i' → w 6 i' = a 6 i' := fun i' hi' => by
        rw [f6, if_neg (by omega)]; exact u3 i' (by omega)
      have wk : ∀ k, k ≠ 6 → k ≠ 7 → k ≠ 10 → w k = a k := fun k h1 h2 h3 => (fk k h1 h2).trans (u1 k h1 h2 h3)
      have w10 : w 10 = u 10 := fk 10 (by decide) (by decide)
      refine tz_if_eq (tgt := 82) C dX0_settle_53 (by decide) (fun c53 => ?_) (fun c53 => ?_)
      · skip
        refine tz_iinc_3_n C dX0_settle_82 ?_
        refine tz_goto (tgt := 4) C dX0_settle_85 (by decide) ?_
        refine ih c8 s w ⟨wk, w67, w6, fun p hp => ?_, ?_⟩
        · rw [w10, split (fun i' => i' / 16 = p)]
          have hq : ((∃ i', i' < i ∧ i' / 16 = p ∧ ¬ tp_nw8 a i' = 0) ∨ (i / 16 = p ∧ ¬ tp_nw8 a i = 0)) ↔ ∃ i', i' < i ∧ i' / 16 = p ∧ ¬ tp_nw8 a i' = 0 := ⟨fun q => q.elim id (fun q => absurd c53 q.2), Or.inl⟩
          rw [hq]
          exact u4 p hp
        · rw [us]
          exact tp_bz_cg (by rw [split1]; exact ⟨Or.inl, fun q => q.elim id (fun q => absurd c53 q)⟩)
      · have hs1 : nI 1 = tp_bz (∃ i', i' < i + 1 ∧ ¬ tp_nw8 a i' = 0) := (tp_bz_t (split1.mpr (Or.inr c53))).symm
        have hp16 : i / 16 < 16 := by omega
        refine tz_iconst (v := nI 1) C dX0_settle_56 (by decide) ?_
        refine tz_istore_2 C dX0_settle_57 ?_
        refine tz_aload_0 C dX0_settle_58 ?_
        refine tz_getA okX0 C 10 dX0_settle_59 rfl q48 ?_
        refine tz_iload_3 C dX0_settle_62 ?_
        refine tz_bipush (v := nI 16) C dX0_settle_63 (by decide) ?_
        refine tz_idiv_n C dX0_settle_65 ?_
        refine tz_iald okX0 C dX0_settle_66 rfl ?_
        refine tz_bipush (v := -5) C dX0_settle_67 (by decide) ?_
        refine tz_icmp_ne (tgt := 82) C dX0_settle_69 (by decide) (fun c69 => ?_) (fun c69 => ?_)
        · skip
          refine tz_iinc_3_n C dX0_settle_82 ?_
          refine tz_goto (tgt := 4) C dX0_settle_85 (by decide) ?_
          refine ih c8 (nI 1) w ⟨wk, w67, w6, fun p hp => ?_, hs1⟩
          rw [w10, split (fun i' => i' / 16 = p)]
          rw [w10] at c69
          by_cases hpi : i / 16 = p
          · subst hpi
            refine ⟨fun q => ?_, fun q => ?_⟩
            · refine (u4 _ hp).1 ⟨q.1, ?_⟩
              apply Classical.byContradiction
              intro q1
              exact c69 (((u4 _ hp).2 (fun q2 => q1 q2.2)).trans q.1)
            · exact (u4 _ hp).2 (fun q2 => q ⟨q2.1, Or.inl q2.2⟩)
          · have hq : ((∃ i', i' < i ∧ i' / 16 = p ∧ ¬ tp_nw8 a i' = 0) ∨ (i / 16 = p ∧ ¬ tp_nw8 a i = 0)) ↔ ∃ i', i' < i ∧ i' / 16 = p ∧ ¬ tp_nw8 a i' = 0 := ⟨fun q => q.elim id (fun q => absurd q.1 hpi), Or.inl⟩
            rw [hq]
            exact u4 p hp
        · skip
          refine tz_aload_0 C dX0_settle_72 ?_
          refine tz_getA okX0 C 10 dX0_settle_73 rfl q48 ?_
          refine tz_iload_3 C dX0_settle_76 ?_
          refine tz_bipush (v := nI 16) C dX0_settle_77 (by decide) ?_
          refine tz_idiv_n C dX0_settle_79 ?_
          refine tz_iload_1 C dX0_settle_80 ?_
          refine tz_iast okX0 C dX0_settle_81 rfl ?_
          refine tz_iinc_3_n C dX0_settle_82 ?_
          refine tz_goto (tgt := 4) C dX0_settle_85 (by decide) ?_
          rw [w10] at c69
          have a10 : a 10 (i / 16) = -5 := by
            apply Classical.byContradiction
            intro q
            exact q (((u4 _ hp16).2 (fun q2 => q q2.1)).symm.trans c69)
          refine ih c8 (nI 1) _ ⟨fun k h1 h2 h3 => by rw [tz_sw_o _ _ _ h3]; exact wk k h1 h2 h3, fun i' hi' => by rw [tz_sw_o _ _ _ (by decide), tz_sw_o _ _ _ (by decide)]; exact w67 i' hi', fun i' hi' => by rw [tz_sw_o _ _ _ (by decide)]; exact w6 i' hi', fun p hp => ?_, hs1⟩
          rw [tz_sw_at, split (fun i' => i' / 16 = p), w10]
          by_cases hpi : p = i / 16
          · subst hpi
            rw [if_pos rfl]
            exact ⟨fun _ => rfl, fun q => absurd ⟨a10, Or.inr ⟨rfl, c53⟩⟩ q⟩
          · rw [if_neg hpi]
            have hq : ((∃ i', i' < i ∧ i' / 16 = p ∧ ¬ tp_nw8 a i' = 0) ∨ (i / 16 = p ∧ ¬ tp_nw8 a i = 0)) ↔ ∃ i', i' < i ∧ i' / 16 = p ∧ ¬ tp_nw8 a i' = 0 := ⟨fun q => q.elim id (fun q => absurd q.1.symm hpi), Or.inl⟩
            rw [hq]
            exact u4 p hp
  refine loop 0 (by decide) (nI 0) a ⟨fun _ _ _ _ => rfl, fun i' hi' => absurd hi' (Nat.not_lt_zero _), fun _ _ => rfl, fun p hp => ⟨fun ⟨_, i', h, _⟩ => absurd h (Nat.not_lt_zero _), fun _ => rfl⟩, (tp_bz_f (fun ⟨i', h, _⟩ => absurd h (Nat.not_lt_zero _))).symm⟩
end
section
/-! LEVELS, the greatest set that goes on for ever, what both classes work out -/
def tp_ini (P : tp_P) (i y : Nat) : Prop := 0 < P.1 ∧ P.2.2.2.1 0 ≤ i ∧ i ≤ P.2.2.2.2 0 ∧ P.2.2.2.1 1 ≤ y ∧ y ≤ P.2.2.2.2 1
def tp_LH (P : tp_P) : Nat → (Nat → Nat → Prop) × (Nat → Nat → Prop)
  | 0 => (tp_ini P, tp_ini P)
  | k + 1 => (fun i y => (∃ i0 y0, (tp_LH P k).1 i0 y0 ∧ tp_stp P i0 y0 i y) ∧ ¬ (tp_LH P k).2 i y, fun i y => (tp_LH P k).2 i y ∨ ((∃ i0 y0, (tp_LH P k).1 i0 y0 ∧ tp_stp P i0 y0 i y) ∧ ¬ (tp_LH P k).2 i y))
abbrev tp_F (P : tp_P) (k i y : Nat) : Prop := (tp_LH P k).1 i y
abbrev tp_H (P : tp_P) (k i y : Nat) : Prop := (tp_LH P k).2 i y
theorem tp_H_of {P : tp_P} {k i y : Nat} : tp_H P k i y ↔ ∃ j, j ≤ k ∧ tp_F P j i y := by
  induction k with
  | zero =>
    constructor
    · intro h; exact ⟨0, Nat.le_refl _, h⟩
    · rintro ⟨j, hj, h⟩; rw [show j = 0 by omega] at h; exact h
  | succ k ih =>
    constructor
    · rintro (h | h)
      · obtain ⟨j, h1, h2⟩ := ih.mp h
        exact ⟨j, by omega, h2⟩
      · exact ⟨k + 1, Nat.le_refl _, h⟩
    · rintro ⟨j, h1, h2⟩
      rcases Nat.lt_or_ge j (k + 1) with q | q
      · exact Or.inl (ih.mpr ⟨j, by omega, h2⟩)
      · rw [show j = k + 1 by omega] at h2
        exact Or.inr h2
theorem tp_F_in {P : tp_P} (ok : tp_okP P) {k i y : Nat} (h : tp_F P k i y) : i / 16 < P.1 ∧ i < 256 ∧ y < 16 := by
  obtain ⟨h1, h2, h3⟩ := ok
  cases k with
  | zero =>
    obtain ⟨g1, g2, g3, g4, g5⟩ := h
    have := (h3 0).2
    have := (h3 1).2
    omega
  | succ k =>
    obtain ⟨⟨i0, y0, -, g⟩, -⟩ := h
    have := tp_stp_lt g h1
    have := g.2.1
    omega
theorem tp_H_in {P : tp_P} (ok : tp_okP P) {k i y : Nat} (h : tp_H P k i y) : i / 16 < P.1 ∧ i < 256 ∧ y < 16 := by
  obtain ⟨j, -, g⟩ := tp_H_of.mp h
  exact tp_F_in ok g
theorem tp_F_dis {P : tp_P} {k i y : Nat} (h : tp_F P (k + 1) i y) : ¬ tp_H P k i y := h.2
theorem tp_F_end {P : tp_P} {k : Nat} (h : ∀ i y, ¬ tp_F P k i y) : ∀ m i y, ¬ tp_F P (k + m) i y := by
  intro m
  induction m with
  | zero => exact h
  | succ m ih =>
    rintro i y ⟨⟨i0, y0, g, -⟩, -⟩
    exact ih i0 y0 g
theorem tp_H_end {P : tp_P} {k : Nat} (h : ∀ i y, ¬ tp_F P k i y) (i y : Nat) : tp_H P k i y ↔ ∃ j, tp_H P j i y := by
  refine ⟨fun g => ⟨k, g⟩, ?_⟩
  rintro ⟨j, g⟩
  obtain ⟨j', h1, h2⟩ := tp_H_of.mp g
  refine tp_H_of.mpr ⟨j', ?_, h2⟩
  rcases Nat.lt_or_ge j' k with q | q
  · omega
  · exact absurd h2 (by have := tp_F_end h (j' - k) i y; rwa [show k + (j' - k) = j' by omega] at this)
/-- the first level at which instruction p is reached: of the levels below n -/
def tp_FS (P : tp_P) (n p : Nat) (v : Int32) : Prop := (∃ j, j < n ∧ v = nI j ∧ (∃ i y, i / 16 = p ∧ tp_F P j i y) ∧ ∀ j', j' < j → ¬ ∃ i y, i / 16 = p ∧ tp_F P j' i y) ∨ (v = -5 ∧ ∀ j, j < n → ¬ ∃ i y, i / 16 = p ∧ tp_F P j i y)
def tp_FI (P : tp_P) (p : Nat) (v : Int32) : Prop := (∃ j, j < 4097 ∧ v = nI j ∧ (∃ i y, i / 16 = p ∧ tp_F P j i y) ∧ ∀ j', j' < j → ¬ ∃ i y, i / 16 = p ∧ tp_F P j' i y) ∨ (v = -5 ∧ ∀ j, ¬ ∃ i y, i / 16 = p ∧ tp_F P j i y)
theorem tp_FS_0 (P : tp_P) (p : Nat) : tp_FS P 0 p (-5) := Or.inr ⟨rfl, fun j hj => absurd hj (Nat.not_lt_zero _)⟩
theorem tp_m5 {j : Nat} (hj : j < 2 ^ 31) : ¬ nI j = -5 := fun q => by
  have := nI_pos' (n := j) hj
  rw [q] at this
  exact absurd this (by decide)
theorem tp_FS_step {P : tp_P} {n p : Nat} {v w : Int32} (hn : n ≤ 4096) (h : tp_FS P n p v) (h1 : (v = -5 ∧ ∃ i y, i / 16 = p ∧ tp_F P n i y) → w = nI n) (h2 : ¬ (v = -5 ∧ ∃ i y, i / 16 = p ∧ tp_F P n i y) → w = v) : tp_FS P (n + 1) p w := by
  rcases h with ⟨j, g1, g2, g3, g4⟩ | ⟨g1, g2⟩
  · have hw : w = v := h2 (fun q => tp_m5 (by omega) (g2.symm.trans q.1))
    exact Or.inl ⟨j, by omega, hw.trans g2, g3, g4⟩
  · rcases Classical.em (∃ i y, i / 16 = p ∧ tp_F P n i y) with q | q
    · exact Or.inl ⟨n, by omega, h1 ⟨g1, q⟩, q, g2⟩
    · refine Or.inr ⟨(h2 (fun z => q z.2)).trans g1, fun j hj => ?_⟩
      rcases Nat.lt_or_ge j n with z | z
      · exact g2 j z
      · rw [show j = n by omega]; exact q
theorem tp_FS_end {P : tp_P} {k p : Nat} {v : Int32} (hk : k ≤ 4096) (he : ∀ i y, ¬ tp_F P k i y) (h : tp_FS P (k + 1) p v) : tp_FI P p v := by
  rcases h with ⟨j, g1, g2⟩ | ⟨g1, g2⟩
  · exact Or.inl ⟨j, by omega, g2⟩
  · refine Or.inr ⟨g1, fun j => ?_⟩
    rcases Nat.lt_or_ge j (k + 1) with q | q
    · exact g2 j q
    · rintro ⟨i, y, -, g⟩
      have := tp_F_end he (j - k) i y
      rw [show k + (j - k) = j by omega] at this
      exact this g
theorem tp_FI_one {P : tp_P} {p : Nat} {v w : Int32} (h : tp_FI P p v) (g : tp_FI P p w) : v = w := by
  rcases h with ⟨j, -, h2, h3, h4⟩ | ⟨h1, h2⟩ <;> rcases g with ⟨j', -, g2, g3, g4⟩ | ⟨g1, g2⟩
  · have : j = j' := by
      rcases Nat.lt_trichotomy j j' with q | q | q
      · exact absurd h3 (g4 j q)
      · exact q
      · exact absurd g3 (h4 j' q)
    rw [h2, g2, this]
  · exact absurd h3 (g2 j)
  · exact absurd g3 (h2 j')
  · rw [h1, g1]
/-- one pass of taking away: from A to B; lost: something went; Q: the rows looked at -/
def tp_PR (P : tp_P) (A B : Nat → Int32) (lost : Prop) (Q : Nat → Prop) : Prop :=
  (∀ i, i < 256 → ∀ y, tp_bt (B i) y = true → tp_bt (A i) y = true) ∧
  (lost → ∃ i y, i < 256 ∧ tp_bt (A i) y = true ∧ ¬ tp_bt (B i) y = true) ∧
  (¬ lost → (∀ i, i < 256 → B i = A i) ∧ ∀ i, i < 256 → Q i → ∀ y, tp_bt (A i) y = true → ∃ i' y', i' < 256 ∧ tp_stp P i y i' y' ∧ tp_bt (A i') y' = true) ∧
  (∀ C : Nat → Nat → Prop, (∀ i y, C i y → ∃ i' y', tp_stp P i y i' y' ∧ C i' y') → (∀ i y, C i y → i < 256 ∧ tp_bt (A i) y = true) → ∀ i y, C i y → i < 256 ∧ tp_bt (B i) y = true)
theorem tp_PR_refl (P : tp_P) (A : Nat → Int32) : tp_PR P A A False (fun _ => False) :=
  ⟨fun _ _ _ h => h, fun h => h.elim, fun _ => ⟨fun _ _ => rfl, fun _ _ h => h.elim⟩, fun _ _ h => h⟩
theorem tp_PR_comp {P : tp_P} {A B D : Nat → Int32} {l m : Prop} {Q S : Nat → Prop} (h : tp_PR P A B l Q) (g : tp_PR P B D m S) : tp_PR P A D (l ∨ m) (fun i => Q i ∨ S i) := by
  obtain ⟨h1, h2, h3, h4⟩ := h
  obtain ⟨g1, g2, g3, g4⟩ := g
  refine ⟨fun i hi y q => h1 i hi y (g1 i hi y q), ?_, ?_, fun C c1 c2 => g4 C c1 (h4 C c1 c2)⟩
  · rintro (q | q)
    · obtain ⟨i, y, k1, k2, k3⟩ := h2 q
      exact ⟨i, y, k1, k2, fun z => k3 (g1 i k1 y z)⟩
    · obtain ⟨i, y, k1, k2, k3⟩ := g2 q
      exact ⟨i, y, k1, h1 i k1 y k2, k3⟩
  · intro q
    obtain ⟨h5, h6⟩ := h3 (fun z => q (Or.inl z))
    obtain ⟨g5, g6⟩ := g3 (fun z => q (Or.inr z))
    refine ⟨fun i hi => (g5 i hi).trans (h5 i hi), fun i hi z y hy => ?_⟩
    rcases z with z | z
    · exact h6 i hi z y hy
    · obtain ⟨i', y', k1, k2, k3⟩ := g6 i hi z y (by rw [h5 i hi]; exact hy)
      exact ⟨i', y', k1, k2, by rw [← h5 i' k1]; exact k3⟩
theorem tp_PR_cg {P : tp_P} {A B : Nat → Int32} {l m : Prop} {Q S : Nat → Prop} (h : tp_PR P A B l Q) (e : l ↔ m) (f : ∀ i, S i → Q i) : tp_PR P A B m S := by
  obtain ⟨h1, h2, h3, h4⟩ := h
  exact ⟨h1, fun q => h2 (e.mpr q), fun q => ⟨(h3 (fun z => q (e.mp z))).1, fun i hi z => (h3 (fun z => q (e.mp z))).2 i hi (f i z)⟩, h4⟩
theorem tp_PR_row {P : tp_P} (hP : P.1 ≤ 16) {A B : Nat → Int32} {i0 : Nat} (hi0 : i0 < 256) (hB : ∀ i, i ≠ i0 → B i = A i) (hk : ∀ y, tp_bt (B i0) y = true ↔ tp_bt (A i0) y = true ∧ ∃ i' y', tp_stp P i0 y i' y' ∧ tp_bt (A i') y' = true) : tp_PR P A B (¬ B i0 = A i0) (fun i => i = i0) := by
  refine ⟨fun i hi y q => ?_, fun q => ?_, fun q => ?_, fun C c1 c2 i y hc => ?_⟩
  · by_cases h : i = i0
    · subst h; exact ((hk y).mp q).1
    · rw [hB i h] at q; exact q
  · apply Classical.byContradiction
    intro z
    apply q
    apply tp_bt_ext
    intro y
    cases hb : tp_bt (B i0) y with
    | true => rw [((hk y).mp hb).1]
    | false =>
      cases ha : tp_bt (A i0) y with
      | false => rfl
      | true => exact absurd ⟨i0, y, hi0, ha, by rw [hb]; decide⟩ z
  · have q := Classical.not_not.mp q
    refine ⟨fun i hi => ?_, fun i hi z y hy => ?_⟩
    · by_cases h : i = i0
      · subst h; exact q
      · exact hB i h
    · subst z
      obtain ⟨-, i', y', g1, g2⟩ := (hk y).mp (by rw [q]; exact hy)
      exact ⟨i', y', (tp_stp_lt g1 hP).1, g1, g2⟩
  · obtain ⟨h1, h2⟩ := c2 i y hc
    refine ⟨h1, ?_⟩
    by_cases h : i = i0
    · subst h
      obtain ⟨i', y', g1, g2⟩ := c1 i y hc
      exact (hk y).mpr ⟨h2, i', y', g1, (c2 i' y' g2).2⟩
    · rw [hB i h]; exact h2
/-- the greatest part of hv that goes on in itself -/
def tp_GF (P : tp_P) (hv al : Nat → Int32) : Prop :=
  (∀ i, i < 256 → ∀ y, tp_bt (al i) y = true → tp_bt (hv i) y = true) ∧
  (∀ i, i < 256 → ∀ y, tp_bt (al i) y = true → ∃ i' y', i' < 256 ∧ tp_stp P i y i' y' ∧ tp_bt (al i') y' = true) ∧
  (∀ C : Nat → Nat → Prop, (∀ i y, C i y → ∃ i' y', tp_stp P i y i' y' ∧ C i' y') → (∀ i y, C i y → i < 256 ∧ tp_bt (hv i) y = true) → ∀ i y, C i y → i < 256 ∧ tp_bt (al i) y = true)
theorem tp_GF_one {P : tp_P} {hv al hv' al' : Nat → Int32} (h : tp_GF P hv al) (h' : tp_GF P hv' al') (e : ∀ i, i < 256 → hv i = hv' i) : ∀ i, i < 256 → al i = al' i := by
  obtain ⟨h1, h2, h3⟩ := h
  obtain ⟨g1, g2, g3⟩ := h'
  intro i hi
  apply tp_bt_ext
  intro y
  have k1 := g3 (fun i y => i < 256 ∧ tp_bt (al i) y = true) (fun i y ⟨q1, q2⟩ => by
    obtain ⟨i', y', z1, z2, z3⟩ := h2 i q1 y q2
    exact ⟨i', y', z2, z1, z3⟩) (fun i y ⟨q1, q2⟩ => ⟨q1, by rw [← e i q1]; exact h1 i q1 y q2⟩) i y
  have k2 := h3 (fun i y => i < 256 ∧ tp_bt (al' i) y = true) (fun i y ⟨q1, q2⟩ => by
    obtain ⟨i', y', z1, z2, z3⟩ := g2 i q1 y q2
    exact ⟨i', y', z2, z1, z3⟩) (fun i y ⟨q1, q2⟩ => ⟨q1, by rw [e i q1]; exact g1 i q1 y q2⟩) i y
  cases ha : tp_bt (al i) y with
  | true => exact (k1 ⟨hi, ha⟩).2.symm
  | false =>
    cases hb : tp_bt (al' i) y with
    | false => rfl
    | true => rw [(k2 ⟨hi, hb⟩).2] at ha; cases ha
/-- what is worked out: hv what is possible, al what goes on for ever, fs the first levels, en whether a run can end -/
def tp_Done (P : tp_P) (hv al fs : Nat → Int32) (en : Int32) : Prop :=
  (∀ i, i < 256 → ∀ y, tp_bt (hv i) y = true ↔ ∃ k, tp_H P k i y) ∧ tp_GF P hv al ∧ (∀ p, p < 16 → tp_FI P p (fs p)) ∧ en = tp_bz (∃ k i y, tp_F P k i y ∧ tp_enp P i y)
theorem tp_Done_one {P : tp_P} {hv al fs hv' al' fs' : Nat → Int32} {en en' : Int32} (h : tp_Done P hv al fs en) (g : tp_Done P hv' al' fs' en') : (∀ i, i < 256 → hv i = hv' i) ∧ (∀ i, i < 256 → al i = al' i) ∧ (∀ p, p < 16 → fs p = fs' p) ∧ en = en' := by
  obtain ⟨h1, h2, h3, h4⟩ := h
  obtain ⟨g1, g2, g3, g4⟩ := g
  have e : ∀ i, i < 256 → hv i = hv' i := fun i hi => by
    apply tp_bt_ext
    intro y
    have := (h1 i hi y).trans (g1 i hi y).symm
    cases ha : tp_bt (hv i) y with
    | true => exact (this.mp ha).symm
    | false =>
      cases hb : tp_bt (hv' i) y with
      | false => rfl
      | true => rw [this.mpr hb] at ha; cases ha
  exact ⟨e, tp_GF_one h2 g2 e, fun p hp => tp_FI_one (h3 p hp) (g3 p hp), h4.trans g4.symm⟩
/-- the state behind a level: what is possible, what is new, the first levels -/
def tp_LV (P : tp_P) (k : Nat) (hv fr fs : Nat → Int32) : Prop :=
  (∀ i, i < 256 → ∀ y, tp_bt (hv i) y = true ↔ tp_H P k i y) ∧ (∀ i, i < 256 → ∀ y, tp_bt (fr i) y = true ↔ tp_F P k i y) ∧ (∀ p, p < 16 → tp_FS P (k + 1) p (fs p))
/-- how far the levels have counted -/
def tp_CT (P : tp_P) (k : Nat) (hv : Nat → Int32) : Prop := k ≤ tp_tot (fun i y => tp_bt (hv i) y) ∧ ((∃ i y, tp_F P k i y) → k + 1 ≤ tp_tot (fun i y => tp_bt (hv i) y))
theorem tp_CT_0 {P : tp_P} (ok : tp_okP P) {hv : Nat → Int32} (h : ∀ i, i < 256 → ∀ y, tp_bt (hv i) y = true ↔ tp_H P 0 i y) : tp_CT P 0 hv := by
  refine ⟨Nat.zero_le _, ?_⟩
  rintro ⟨i, y, g⟩
  obtain ⟨-, h1, h2⟩ := tp_F_in ok g
  have := tp_tot_strict (S := fun _ _ => false) (T := fun i y => tp_bt (hv i) y) (fun _ _ _ _ q => by cases q) ⟨i, y, h1, h2, rfl, (h i h1 y).mpr g⟩
  omega
theorem tp_CT_step {P : tp_P} (ok : tp_okP P) {k : Nat} {hv hv' : Nat → Int32} (h : tp_CT P k hv) (hn : ∃ i y, tp_F P k i y) (h1 : ∀ i, i < 256 → ∀ y, tp_bt (hv i) y = true ↔ tp_H P k i y) (h2 : ∀ i, i < 256 → ∀ y, tp_bt (hv' i) y = true ↔ tp_H P (k + 1) i y) : tp_CT P (k + 1) hv' := by
  have hm : ∀ i, i < 256 → ∀ y, y < 16 → tp_bt (hv i) y = true → tp_bt (hv' i) y = true := fun i hi y _ q => (h2 i hi y).mpr (Or.inl ((h1 i hi y).mp q))
  have h3 := h.2 hn
  refine ⟨Nat.le_trans h3 (tp_tot_mono hm), ?_⟩
  rintro ⟨i, y, g⟩
  obtain ⟨-, q1, q2⟩ := tp_F_in ok g
  have := tp_tot_strict (S := fun i y => tp_bt (hv i) y) (T := fun i y => tp_bt (hv' i) y) hm ⟨i, y, q1, q2, by
    cases hb : tp_bt (hv i) y with
    | false => rfl
    | true => exact absurd ((h1 i q1 y).mp hb) (tp_F_dis g), (h2 i q1 y).mpr (Or.inr g)⟩
  omega
theorem tp_CT_end {P : tp_P} {k : Nat} {hv : Nat → Int32} (h : tp_CT P k hv) (hk : 4096 ≤ k) : ∀ i y, ¬ tp_F P k i y := fun i y g => by
  have := h.2 ⟨i, y, g⟩
  have := tp_tot_le (fun i y => tp_bt (hv i) y)
  omega
end
section
/-! TrapProver: anyAlive, leadsOn, prune, findEndless -/
set_option maxRecDepth 100000
theorem mX0_anyAlive {L e : Nat} (hL : L ≤ 16) (he : e = 0 ∨ e = 1) (t : Int32) (a : tz_S) (h0 : a 0 0 = nI L) : tz_Mi IX0 yX0_anyAlive cX0_anyAlive 5 .boolean 1 [t, nI e] a (fun r u => u = a ∧ r = tp_bz (∃ i y, t = nI (i / 16) ∧ i / 16 < L ∧ tp_bt (a (13 + e) (i % 16)) y = true ∧ tp_bt (a 9 i) y = true)) := by
  refine tz_enter (by decide) rfl (Nat.le_of_ble_eq_true rfl) (fun E C R => ?_)
  show tz_Z _ E 0 [some (.ref (tz_h E 0)), some (.int t), some (.int (nI e)), none, none] [] _
  refine tz_aload_0 C dX0_anyAlive_0 ?_
  refine tz_iload_1 C dX0_anyAlive_1 ?_
  refine tz_call1 okX0 C vX0_noInstruction (mX0_noInstruction t a) dX0_anyAlive_2 (fun r u hu => ?_)
  obtain ⟨rfl, hr⟩ := hu
  have hr : r = tp_bz (tp_nw L t) := by rw [hr, h0]; rfl
  subst hr
  rcases tp_bz_or (tp_nw L t) with ⟨nw, hz⟩ | ⟨nw, hz⟩
  · rw [hz]
    refine tz_if_eq (tgt := 10) C dX0_anyAlive_5 (by decide) (fun c5 => ?_) (fun c5 => ?_)
    · exact absurd c5 tp_n10
    · skip
      refine tz_iconst (v := nI 0) C dX0_anyAlive_8 (by decide) ?_
      refine R _ _ _ _ dX0_anyAlive_9 (by decide) ⟨rfl, (tp_bz_f ?_).symm⟩
      rintro ⟨i, y, h1, h2, -⟩
      rw [h1, tp_nw_nI (by omega) (by omega)] at nw
      omega
  · rw [hz]
    obtain ⟨q, hq, rfl⟩ := tp_nw_not (by omega) nw
    refine tz_if_eq (tgt := 10) C dX0_anyAlive_5 (by decide) (fun c5 => ?_) (fun c5 => ?_)
    · skip
      refine tz_iconst (v := nI 0) C dX0_anyAlive_10 (by decide) ?_
      refine tz_istore_3 C dX0_anyAlive_11 ?_
      have loop : ∀ x, x ≤ 16 → ∀ (o4 : Option Value), (∀ x', x' < x → u (13 + e) x' &&& u 9 (q * 16 + x') = 0) → tz_Z IX0 E 12 [some (.ref (tz_h E 0)), some (.int (nI q)), some (.int (nI e)), some (.int (nI x)), o4] [] u := by
        refine tz_upto 16 (fun x hx ih => ?_)
        intro o4 hu
        have tail : tz_Z IX0 E 37 [some (.ref (tz_h E 0)), some (.int (nI q)), some (.int (nI e)), some (.int (nI x)), o4] [.int (u (13 + e) x)] u ∨ ¬ x < 16 := by
          rcases Nat.lt_or_ge x 16 with hx16 | hx16
          · refine Or.inl ?_
            refine tz_istore_4 C dX0_anyAlive_37 ?_
            refine tz_iload_4 C dX0_anyAlive_39 ?_
            refine tz_aload_0 C dX0_anyAlive_41 ?_
            refine tz_getA okX0 C 9 dX0_anyAlive_42 rfl q47 ?_
            refine tz_iload_1 C dX0_anyAlive_45 ?_
            refine tz_bipush (v := nI 16) C dX0_anyAlive_46 (by decide) ?_
            first | refine tz_imul_n C dX0_anyAlive_48 ?_ | refine tz_imul C dX0_anyAlive_48 ?_
            refine tz_iload_3 C dX0_anyAlive_49 ?_
            first | refine tz_iadd_n C dX0_anyAlive_50 ?_ | refine tz_iadd C dX0_anyAlive_50 ?_
            refine tz_iald okX0 C dX0_anyAlive_51 rfl ?_
            refine tz_iand C dX0_anyAlive_52 ?_
            refine tz_if_eq (tgt := 58) C dX0_anyAlive_53 (by decide) (fun c53 => ?_) (fun c53 => ?_)
            · skip
              refine tz_iinc_3_n C dX0_anyAlive_58 ?_
              refine tz_goto (tgt := 12) C dX0_anyAlive_61 (by decide) ?_
              refine ih hx16 _ (fun x' hx' => ?_)
              rcases Nat.lt_or_ge x' x with g | g
              · exact hu x' g
              · rw [show x' = x by omega]; exact c53
            · skip
              refine tz_iconst (v := nI 1) C dX0_anyAlive_56 (by decide) ?_
              obtain ⟨y, hy⟩ := tp_ne0.mp c53
              rw [tp_bt_and] at hy
              simp at hy
              obtain ⟨d1, d2⟩ := tp_dm (p := q) hx16
              exact R _ _ _ _ dX0_anyAlive_57 (by first | rfl | decide | exact tp_bz_nar _) (⟨rfl, (tp_bz_t ⟨q * 16 + x, y, by rw [d1], by rw [d1]; exact hq, by rw [d2]; exact hy.1, hy.2⟩).symm⟩)
          · exact Or.inr (by omega)
        refine tz_iload_3 C dX0_anyAlive_12 ?_
        refine tz_bipush (v := nI 16) C dX0_anyAlive_13 (by decide) ?_
        refine tz_icmp_ge_n (tgt := 64) C dX0_anyAlive_15 (by decide) (fun c15 => ?_) (fun c15 => ?_)
        · skip
          refine tz_iconst (v := nI 0) C dX0_anyAlive_64 (by decide) ?_
          refine R _ _ _ _ dX0_anyAlive_65 (by decide) ⟨rfl, (tp_bz_f ?_).symm⟩
          rintro ⟨i, y, h1, h2, h3, h4⟩
          have h1 : q = i / 16 := (nI_eq (by omega) (by omega)).mp h1
          have := hu (i % 16) (by omega)
          rw [show q * 16 + i % 16 = i by omega] at this
          have g : tp_bt (u (13 + e) (i % 16) &&& u 9 i) y = true := by rw [tp_bt_and, h3, h4]; rfl
          rw [this, tp_bt_zero] at g
          cases g
        · have tail := tail.resolve_right (fun q => q c15)
          rcases he with rfl | rfl
          · skip
            refine tz_iload_2 C dX0_anyAlive_18 ?_
            refine tz_if_eq (tgt := 31) C dX0_anyAlive_19 (by decide) (fun c19 => ?_) (fun c19 => ?_)
            · skip
              refine tz_aload_0 C dX0_anyAlive_31 ?_
              refine tz_getA okX0 C 13 dX0_anyAlive_32 rfl q51 ?_
              refine tz_iload_3 C dX0_anyAlive_35 ?_
              refine tz_iald okX0 C dX0_anyAlive_36 rfl ?_
              exact tail
            · exact absurd nI_0 c19
          · skip
            refine tz_iload_2 C dX0_anyAlive_18 ?_
            refine tz_if_eq (tgt := 31) C dX0_anyAlive_19 (by decide) (fun c19 => ?_) (fun c19 => ?_)
            · exact absurd c19 tp_n10
            · skip
              refine tz_aload_0 C dX0_anyAlive_22 ?_
              refine tz_getA okX0 C 14 dX0_anyAlive_23 rfl q52 ?_
              refine tz_iload_3 C dX0_anyAlive_26 ?_
              refine tz_iald okX0 C dX0_anyAlive_27 rfl ?_
              refine tz_goto (tgt := 37) C dX0_anyAlive_28 (by decide) ?_
              exact tail
      exact loop 0 (by decide) none (fun x' hx' => absurd hx' (Nat.not_lt_zero _))
    · exact absurd nI_0 c5
theorem mX0_leadsOn {P : tp_P} (okP : tp_okP P) {p x y : Nat} (hp : p < P.1) (hx : x < 16) (hy : y < 16) (a : tz_S) (hP : tp_has P a) : tz_Mi IX0 yX0_leadsOn cX0_leadsOn 6 .boolean 4 [nI p, nI x, nI y] a (fun r u => (∀ k, k ≤ 11 → u k = a k) ∧ r = tp_bz (∃ i' y', tp_stp P (p * 16 + x) y i' y' ∧ tp_bt (a 9 i') y' = true)) := by
  obtain ⟨okL, okO, -⟩ := okP
  obtain ⟨hP0, hP1, hP2, -, -⟩ := hP
  refine tz_enter (by decide) rfl (Nat.le_of_ble_eq_true rfl) (fun E C R => ?_)
  show tz_Z _ E 0 [some (.ref (tz_h E 0)), some (.int (nI p)), some (.int (nI x)), some (.int (nI y)), none, none] [] _
  refine tz_iconst (v := nI 0) C dX0_leadsOn_0 (by decide) ?_
  refine tz_istore_4 C dX0_leadsOn_1 ?_
  have body : ∀ u : tz_S, ((∀ k, k ≠ 12 → u k = a k) ∧ ∀ x', x' < 16 → ∀ y', tp_bt (u 12 x') y' = true ↔ x' = x ∧ y' = y) → tz_Z IX0 E 36 [some (.ref (tz_h E 0)), some (.int (nI p)), some (.int (nI x)), some (.int (nI y)), some (.int (nI 16)), none] [] u := by
    intro u hu
    obtain ⟨u1, u2⟩ := hu
    have w1 : u 1 p = nI (P.2.1 p) := by rw [u1 1 (by decide)]; exact hP1 p
    have w2 : u 2 p = P.2.2.1 p := by rw [u1 2 (by decide)]; exact hP2 p
    refine tz_aload_0 C dX0_leadsOn_36 ?_
    refine tz_iload_1 C dX0_leadsOn_37 ?_
    refine tz_callv1 okX0 C vX0_transfer (mX0_transfer (show p < 16 by omega) u w1 (okO p) (fun x' hx' y' h => by have := (u2 x' hx' y').mp h; omega)) dX0_leadsOn_38 (fun w hw => ?_)
    rw [w2] at hw
    obtain ⟨t1, t2, t3, -⟩ := hw
    have wk : ∀ k, k ≤ 11 → w k = a k := fun k hk => (t1 k (by omega) (by omega) (by omega)).trans (u1 k (by omega))
    have e0 : w 0 0 = nI P.1 := by rw [wk 0 (by decide)]; exact hP0
    refine tz_aload_0 C dX0_leadsOn_41 ?_
    refine tz_iload_1 C dX0_leadsOn_42 ?_
    refine tz_iconst (v := nI 1) C dX0_leadsOn_43 (by decide) ?_
    first | refine tz_iadd_n C dX0_leadsOn_44 ?_ | refine tz_iadd C dX0_leadsOn_44 ?_
    refine tz_iconst (v := nI 0) C dX0_leadsOn_45 (by decide) ?_
    refine tz_call2 okX0 C vX0_anyAlive (mX0_anyAlive (L := P.1) (e := 0) okL (Or.inl rfl) _ w e0) dX0_leadsOn_46 (fun r1 v hv => ?_)
    obtain ⟨rfl, hr1⟩ := hv
    have s2 : v 2 p = P.2.2.1 p := by rw [wk 2 (by decide)]; exact hP2 p
    refine tz_istore_4 C dX0_leadsOn_49 ?_
    refine tz_aload_0 C dX0_leadsOn_51 ?_
    refine tz_aload_0 C dX0_leadsOn_52 ?_
    refine tz_getA okX0 C 2 dX0_leadsOn_53 rfl q40 ?_
    refine tz_iload_1 C dX0_leadsOn_56 ?_
    refine tz_iald okX0 C dX0_leadsOn_57 rfl ?_
    refine tz_top (s2) ?_
    refine tz_iconst (v := nI 1) C dX0_leadsOn_58 (by decide) ?_
    refine tz_call2 okX0 C vX0_anyAlive (mX0_anyAlive (L := P.1) (e := 1) okL (Or.inr rfl) _ v e0) dX0_leadsOn_59 (fun r2 v' hv' => ?_)
    obtain ⟨rfl, hr2⟩ := hv'
    have hz : tp_bz ((∃ i y, nI (p + 1) = nI (i / 16) ∧ i / 16 < P.1 ∧ tp_bt (v' (13 + 0) (i % 16)) y = true ∧ tp_bt (v' 9 i) y = true) ∨ (∃ i y, P.2.2.1 p = nI (i / 16) ∧ i / 16 < P.1 ∧ tp_bt (v' (13 + 1) (i % 16)) y = true ∧ tp_bt (v' 9 i) y = true)) = tp_bz (∃ i' y', tp_stp P (p * 16 + x) y i' y' ∧ tp_bt (a 9 i') y' = true) := by
      refine tp_bz_cg ?_
      rw [wk 9 (by decide)]
      have key : ∀ i' y', ((nI (p + 1) = nI (i' / 16) ∧ i' / 16 < P.1 ∧ tp_bt (v' 13 (i' % 16)) y' = true) ∨ (P.2.2.1 p = nI (i' / 16) ∧ i' / 16 < P.1 ∧ tp_bt (v' 14 (i' % 16)) y' = true)) ↔ tp_stp P (p * 16 + x) y i' y' := fun i' y' => by
        rw [tp_passA (g := u 12) okL hp t2 t3]
        constructor
        · rintro ⟨x0, y0, h1, h2, h3⟩
          obtain ⟨rfl, rfl⟩ := (u2 x0 h1 y0).mp h2
          exact h3
        · intro h; exact ⟨x, y, hx, (u2 x hx y).mpr ⟨rfl, rfl⟩, h⟩
      constructor
      · rintro (⟨i', y', h1, h2, h3, h4⟩ | ⟨i', y', h1, h2, h3, h4⟩)
        · exact ⟨i', y', (key i' y').mp (Or.inl ⟨h1, h2, h3⟩), h4⟩
        · exact ⟨i', y', (key i' y').mp (Or.inr ⟨h1, h2, h3⟩), h4⟩
      · rintro ⟨i', y', h1, h2⟩
        rcases (key i' y').mpr h1 with ⟨g1, g2, g3⟩ | ⟨g1, g2, g3⟩
        · exact Or.inl ⟨i', y', g1, g2, g3, h2⟩
        · exact Or.inr ⟨i', y', g1, g2, g3, h2⟩
    refine tz_istore_5 C dX0_leadsOn_62 ?_
    refine tz_iload_4 C dX0_leadsOn_64 ?_
    refine tz_if_ne (tgt := 74) C dX0_leadsOn_66 (by decide) (fun c66 => ?_) (fun c66 => ?_)
    · skip
      refine tz_iconst (v := nI 1) C dX0_leadsOn_74 (by decide) ?_
      refine tz_goto (tgt := 79) C dX0_leadsOn_75 (by decide) ?_
      exact R _ _ _ _ dX0_leadsOn_79 (by first | rfl | decide | exact tp_bz_nar _) (⟨wk, by rw [← hz]; exact (tp_bz_t (Or.inl (Classical.byContradiction fun q => c66 (by rw [hr1]; exact tp_bz_0.mpr q)))).symm⟩)
    · skip
      refine tz_iload_5 C dX0_leadsOn_69 ?_
      refine tz_if_eq (tgt := 78) C dX0_leadsOn_71 (by decide) (fun c71 => ?_) (fun c71 => ?_)
      · skip
        refine tz_iconst (v := nI 0) C dX0_leadsOn_78 (by decide) ?_
        exact R _ _ _ _ dX0_leadsOn_79 (by first | rfl | decide | exact tp_bz_nar _) (⟨wk, by rw [← hz]; exact (tp_bz_f (fun q => q.elim (tp_bz_0.mp (hr1 ▸ c66)) (tp_bz_0.mp (hr2 ▸ c71)))).symm⟩)
      · skip
        refine tz_iconst (v := nI 1) C dX0_leadsOn_74 (by decide) ?_
        refine tz_goto (tgt := 79) C dX0_leadsOn_75 (by decide) ?_
        exact R _ _ _ _ dX0_leadsOn_79 (by first | rfl | decide | exact tp_bz_nar _) (⟨wk, by rw [← hz]; exact (tp_bz_t (Or.inr (Classical.byContradiction fun q => c71 (by rw [hr2]; exact tp_bz_0.mpr q)))).symm⟩)
  have loop : ∀ i, i ≤ 16 → ∀ u : tz_S, ((∀ k, k ≠ 12 → u k = a k) ∧ ∀ x', x' < i → ∀ y', tp_bt (u 12 x') y' = true ↔ x' = x ∧ y' = y) → tz_Z IX0 E 3 [some (.ref (tz_h E 0)), some (.int (nI p)), some (.int (nI x)), some (.int (nI y)), some (.int (nI i)), none] [] u := by
    refine tz_upto 16 (fun i hi ih => ?_)
    intro u hu
    refine tz_iload_4 C dX0_leadsOn_3 ?_
    refine tz_bipush (v := nI 16) C dX0_leadsOn_5 (by decide) ?_
    refine tz_icmp_ge_n (tgt := 36) C dX0_leadsOn_7 (by decide) (fun c7 => ?_) (fun c7 => ?_)
    · have hi16 : i = 16 := by omega
      subst hi16
      exact body u hu
    · skip
      refine tz_aload_0 C dX0_leadsOn_10 ?_
      refine tz_getA okX0 C 12 dX0_leadsOn_11 rfl q50 ?_
      refine tz_iload_4 C dX0_leadsOn_14 ?_
      refine tz_iload_4 C dX0_leadsOn_16 ?_
      refine tz_iload_2 C dX0_leadsOn_18 ?_
      refine tz_icmp_ne_n (tgt := 28) C dX0_leadsOn_19 (by decide) (fun c19 => ?_) (fun c19 => ?_)
      · skip
        refine tz_iconst (v := nI 0) C dX0_leadsOn_28 (by decide) ?_
        refine tz_iast okX0 C dX0_leadsOn_29 rfl ?_
        refine tz_iinc_4_n C dX0_leadsOn_30 ?_
        refine tz_goto (tgt := 3) C dX0_leadsOn_33 (by decide) ?_
        refine ih c7 _ ⟨fun k hk => by rw [tz_sw_o _ _ _ hk]; exact hu.1 k hk, fun x' hx' y' => ?_⟩
        rw [tz_sw_at]
        by_cases h : x' = i
        · rw [if_pos h, tp_bt_n0]
          exact ⟨fun q => (by cases q), fun q => absurd (h.symm.trans q.1) c19⟩
        · rw [if_neg h]; exact hu.2 x' (by omega) y'
      · skip
        refine tz_iconst (v := nI 1) C dX0_leadsOn_22 (by decide) ?_
        refine tz_iload_3 C dX0_leadsOn_23 ?_
        refine tz_ishl C dX0_leadsOn_24 ?_
        refine tz_goto (tgt := 29) C dX0_leadsOn_25 (by decide) ?_
        refine tz_iast okX0 C dX0_leadsOn_29 rfl ?_
        refine tz_iinc_4_n C dX0_leadsOn_30 ?_
        refine tz_goto (tgt := 3) C dX0_leadsOn_33 (by decide) ?_
        refine ih c7 _ ⟨fun k hk => by rw [tz_sw_o _ _ _ hk]; exact hu.1 k hk, fun x' hx' y' => ?_⟩
        rw [tz_sw_at]
        by_cases h : x' = i
        · rw [if_pos h, tp_bt_shl1 hy]
          simp [h, c19]
        · rw [if_neg h]; exact hu.2 x' (by omega) y'
  exact loop 0 (by decide) a ⟨fun _ _ => rfl, fun x' hx' => absurd hx' (Nat.not_lt_zero _)⟩
theorem mX0_prune {P : tp_P} (okP : tp_okP P) {p : Nat} (hp : p < P.1) (a : tz_S) (hP : tp_has P a) (hw : ∀ i, i < 256 → tp_wf (a 9 i)) : tz_Mi IX0 yX0_prune cX0_prune 7 .boolean 5 [nI p] a (fun r u => (∀ k, k ≤ 11 → k ≠ 9 → u k = a k) ∧ ∃ lost : Prop, r = tp_bz lost ∧ tp_PR P (a 9) (u 9) lost (fun i => i / 16 = p)) := by
  have hpL := okP.1
  refine tz_enter (by decide) rfl (Nat.le_of_ble_eq_true rfl) (fun E C R => ?_)
  show tz_Z _ E 0 [some (.ref (tz_h E 0)), some (.int (nI p)), none, none, none, none, none] [] _
  refine tz_iconst (v := nI 0) C dX0_prune_0 (by decide) ?_
  refine tz_istore_2 C dX0_prune_1 ?_
  refine tz_iconst (v := nI 0) C dX0_prune_2 (by decide) ?_
  refine tz_istore_3 C dX0_prune_3 ?_
  have loop : ∀ x, x ≤ 16 → ∀ (o4 o5 o6 : Option Value) (lost : Prop) (u : tz_S), ((∀ k, k ≤ 11 → k ≠ 9 → u k = a k) ∧ tp_PR P (a 9) (u 9) lost (fun i => i / 16 = p ∧ i % 16 < x)) → tz_Z IX0 E 4 [some (.ref (tz_h E 0)), some (.int (nI p)), some (.int (tp_bz lost)), some (.int (nI x)), o4, o5, o6] [] u := by
    refine tz_upto 16 (fun x hx ih => ?_)
    intro o4 o5 o6 lost u hu
    obtain ⟨u1, u2⟩ := hu
    refine tz_iload_3 C dX0_prune_4 ?_
    refine tz_bipush (v := nI 16) C dX0_prune_5 (by decide) ?_
    refine tz_icmp_ge_n (tgt := 110) C dX0_prune_7 (by decide) (fun c7 => ?_) (fun c7 => ?_)
    · skip
      refine tz_iload_2 C dX0_prune_110 ?_
      exact R _ _ _ _ dX0_prune_111 (by first | rfl | decide | exact tp_bz_nar _) (⟨u1, lost, rfl, tp_PR_cg u2 Iff.rfl (fun i h => ⟨h, by omega⟩)⟩)
    · skip
      refine tz_iconst (v := nI 0) C dX0_prune_10 (by decide) ?_
      refine tz_istore_4 C dX0_prune_11 ?_
      refine tz_iconst (v := nI 0) C dX0_prune_13 (by decide) ?_
      refine tz_istore_5 C dX0_prune_14 ?_
      have inner : ∀ y, y ≤ 16 → ∀ (o6 : Option Value) (kp : Int32) (w : tz_S), ((∀ k, k ≤ 11 → w k = u k) ∧ ∀ y', tp_bt kp y' = true ↔ y' < y ∧ tp_bt (u 9 (p * 16 + x)) y' = true ∧ ∃ i1 y1, tp_stp P (p * 16 + x) y' i1 y1 ∧ tp_bt (u 9 i1) y1 = true) → tz_Z IX0 E 16 [some (.ref (tz_h E 0)), some (.int (nI p)), some (.int (tp_bz lost)), some (.int (nI x)), some (.int kp), some (.int (nI y)), o6] [] w := by
        refine tz_upto 16 (fun y hy ih2 => ?_)
        intro o6 kp w hw1
        obtain ⟨w1, w2⟩ := hw1
        have e9 : w 9 = u 9 := w1 9 (by decide)
        refine tz_iload_5 C dX0_prune_16 ?_
        refine tz_bipush (v := nI 16) C dX0_prune_18 (by decide) ?_
        refine tz_icmp_ge_n (tgt := 73) C dX0_prune_20 (by decide) (fun c20 => ?_) (fun c20 => ?_)
        · have hwx : tp_wf (u 9 (p * 16 + x)) := fun y' h => hw (p * 16 + x) (by omega) y' (u2.1 _ (by omega) _ h)
          have hrow : tp_PR P (u 9) (tz_sw w 9 (p * 16 + x) kp 9) (¬ kp = u 9 (p * 16 + x)) (fun i => i = p * 16 + x) := by
            have h1 := tp_PR_row (P := P) hpL (A := u 9) (B := tz_sw w 9 (p * 16 + x) kp 9) (i0 := p * 16 + x) (by omega) (fun i hi => by rw [tz_sw_kn _ _ _ hi, e9]) (fun y' => by
              rw [tz_sw_kj, w2 y']
              refine ⟨fun h => h.2, fun h => ⟨?_, h⟩⟩
              have := hwx y' h.1
              omega)
            rwa [tz_sw_kj] at h1
          have hpr := tp_PR_comp u2 hrow
          have keep : ∀ k, k ≤ 11 → k ≠ 9 → tz_sw w 9 (p * 16 + x) kp k = a k := fun k h1 h2 => by rw [tz_sw_o _ _ _ h2, w1 k h1]; exact u1 k h1 h2
          have hQ : ∀ i, (i / 16 = p ∧ i % 16 < x + 1) → ((i / 16 = p ∧ i % 16 < x) ∨ i = p * 16 + x) := fun i h => by omega
          refine tz_iload_4 C dX0_prune_73 ?_
          refine tz_aload_0 C dX0_prune_75 ?_
          refine tz_getA okX0 C 9 dX0_prune_76 rfl q47 ?_
          refine tz_iload_1 C dX0_prune_79 ?_
          refine tz_bipush (v := nI 16) C dX0_prune_80 (by decide) ?_
          first | refine tz_imul_n C dX0_prune_82 ?_ | refine tz_imul C dX0_prune_82 ?_
          refine tz_iload_3 C dX0_prune_83 ?_
          first | refine tz_iadd_n C dX0_prune_84 ?_ | refine tz_iadd C dX0_prune_84 ?_
          refine tz_iald okX0 C dX0_prune_85 rfl ?_
          refine tz_top (congrFun e9 _) ?_
          refine tz_icmp_eq (tgt := 91) C dX0_prune_86 (by decide) (fun c86 => ?_) (fun c86 => ?_)
          · skip
            refine tz_aload_0 C dX0_prune_91 ?_
            refine tz_getA okX0 C 9 dX0_prune_92 rfl q47 ?_
            refine tz_iload_1 C dX0_prune_95 ?_
            refine tz_bipush (v := nI 16) C dX0_prune_96 (by decide) ?_
            first | refine tz_imul_n C dX0_prune_98 ?_ | refine tz_imul C dX0_prune_98 ?_
            refine tz_iload_3 C dX0_prune_99 ?_
            first | refine tz_iadd_n C dX0_prune_100 ?_ | refine tz_iadd C dX0_prune_100 ?_
            refine tz_iload_4 C dX0_prune_101 ?_
            refine tz_iast okX0 C dX0_prune_103 rfl ?_
            refine tz_iinc_3_n C dX0_prune_104 ?_
            refine tz_goto (tgt := 4) C dX0_prune_107 (by decide) ?_
            refine ih c7 _ _ _ lost _ ⟨keep, tp_PR_cg hpr ⟨fun q => q.elim id (fun q => absurd c86 q), Or.inl⟩ hQ⟩
          · skip
            refine tz_iconst (v := nI 1) C dX0_prune_89 (by decide) ?_
            refine tz_istore_2 C dX0_prune_90 ?_
            refine tz_aload_0 C dX0_prune_91 ?_
            refine tz_getA okX0 C 9 dX0_prune_92 rfl q47 ?_
            refine tz_iload_1 C dX0_prune_95 ?_
            refine tz_bipush (v := nI 16) C dX0_prune_96 (by decide) ?_
            first | refine tz_imul_n C dX0_prune_98 ?_ | refine tz_imul C dX0_prune_98 ?_
            refine tz_iload_3 C dX0_prune_99 ?_
            first | refine tz_iadd_n C dX0_prune_100 ?_ | refine tz_iadd C dX0_prune_100 ?_
            refine tz_iload_4 C dX0_prune_101 ?_
            refine tz_iast okX0 C dX0_prune_103 rfl ?_
            refine tz_iinc_3_n C dX0_prune_104 ?_
            refine tz_goto (tgt := 4) C dX0_prune_107 (by decide) ?_
            have hl : tp_bz (lost ∨ ¬ kp = u 9 (p * 16 + x)) = nI 1 := tp_bz_t (Or.inr c86)
            have := ih c7 (some (.int kp)) (some (.int (nI y))) o6 _ _ ⟨keep, tp_PR_cg hpr Iff.rfl hQ⟩
            rw [hl] at this
            exact this
        · skip
          refine tz_aload_0 C dX0_prune_23 ?_
          refine tz_getA okX0 C 9 dX0_prune_24 rfl q47 ?_
          refine tz_iload_1 C dX0_prune_27 ?_
          refine tz_bipush (v := nI 16) C dX0_prune_28 (by decide) ?_
          first | refine tz_imul_n C dX0_prune_30 ?_ | refine tz_imul C dX0_prune_30 ?_
          refine tz_iload_3 C dX0_prune_31 ?_
          first | refine tz_iadd_n C dX0_prune_32 ?_ | refine tz_iadd C dX0_prune_32 ?_
          refine tz_iald okX0 C dX0_prune_33 rfl ?_
          refine tz_top (congrFun e9 _) ?_
          refine tz_iload_5 C dX0_prune_34 ?_
          refine tz_ishr C dX0_prune_36 ?_
          refine tz_iconst (v := nI 1) C dX0_prune_37 (by decide) ?_
          refine tz_iand C dX0_prune_38 ?_
          refine tz_iconst (v := nI 1) C dX0_prune_39 (by decide) ?_
          refine tz_icmp_ne (tgt := 67) C dX0_prune_40 (by decide) (fun c40 => ?_) (fun c40 => ?_)
          · have hb : ¬ tp_bt (u 9 (p * 16 + x)) y = true := fun q => c40 (tp_shr_t c20 q)
            refine tz_iinc_5_n C dX0_prune_67 ?_
            refine tz_goto (tgt := 16) C dX0_prune_70 (by decide) ?_
            refine ih2 c20 _ kp w ⟨w1, fun y' => (w2 y').trans ⟨fun h => ⟨by omega, h.2⟩, fun h => ⟨?_, h.2⟩⟩⟩
            rcases Nat.lt_or_ge y' y with g | g
            · exact g
            · exact absurd h.2.1 (by rw [show y' = y by omega]; exact hb)
          · have hb : tp_bt (u 9 (p * 16 + x)) y = true := (tp_shr_iff _ c20).mp c40
            refine tz_aload_0 C dX0_prune_43 ?_
            refine tz_iload_1 C dX0_prune_44 ?_
            refine tz_iload_3 C dX0_prune_45 ?_
            refine tz_iload_5 C dX0_prune_46 ?_
            refine tz_call3 okX0 C vX0_leadsOn (mX0_leadsOn okP hp c7 c20 w (tp_has_kept hP (fun k hk => (w1 k (by omega)).trans (u1 k (by omega) (by omega))))) dX0_prune_48 (fun r v hv => ?_)
            obtain ⟨v1, hr⟩ := hv
            rw [e9] at hr
            have vk : ∀ k, k ≤ 11 → v k = u k := fun k hk => (v1 k hk).trans (w1 k hk)
            refine tz_istore_6 C dX0_prune_51 ?_
            refine tz_iload_6 C dX0_prune_53 ?_
            rcases tp_bz_or (∃ i' y', tp_stp P (p * 16 + x) y i' y' ∧ tp_bt (u 9 i') y' = true) with ⟨hg, hz⟩ | ⟨hg, hz⟩
            · rw [hz] at hr
              subst hr
              refine tz_if_eq (tgt := 67) C dX0_prune_55 (by decide) (fun c55 => ?_) (fun c55 => ?_)
              · exact absurd c55 tp_n10
              · skip
                refine tz_iload_4 C dX0_prune_58 ?_
                refine tz_iconst (v := nI 1) C dX0_prune_60 (by decide) ?_
                refine tz_iload_5 C dX0_prune_61 ?_
                refine tz_ishl C dX0_prune_63 ?_
                refine tz_ior C dX0_prune_64 ?_
                refine tz_istore_4 C dX0_prune_65 ?_
                refine tz_iinc_5_n C dX0_prune_67 ?_
                refine tz_goto (tgt := 16) C dX0_prune_70 (by decide) ?_
                refine ih2 c20 _ _ v ⟨vk, fun y' => ?_⟩
                rw [tp_bt_or, tp_bt_shl1 c20, Bool.or_eq_true, w2 y']
                constructor
                · rintro (h | h)
                  · exact ⟨by omega, h.2⟩
                  · have h : y' = y := by simpa using h
                    subst h
                    exact ⟨by omega, hb, hg⟩
                · rintro ⟨h1, h2⟩
                  rcases Nat.lt_or_ge y' y with g | g
                  · exact Or.inl ⟨g, h2⟩
                  · exact Or.inr (by simp; omega)
            · rw [hz] at hr
              subst hr
              refine tz_if_eq (tgt := 67) C dX0_prune_55 (by decide) (fun c55 => ?_) (fun c55 => ?_)
              · skip
                refine tz_iinc_5_n C dX0_prune_67 ?_
                refine tz_goto (tgt := 16) C dX0_prune_70 (by decide) ?_
                refine ih2 c20 _ _ v ⟨vk, fun y' => (w2 y').trans ⟨fun h => ⟨by omega, h.2⟩, fun h => ⟨?_, h.2⟩⟩⟩
                rcases Nat.lt_or_ge y' y with g | g
                · exact g
                · have h2 := h.2.2
                  rw [show y' = y by omega] at h2
                  exact absurd h2 hg
              · exact absurd nI_0 c55
      exact inner 0 (by decide) o6 (nI 0) u ⟨fun _ _ => rfl, fun y' => by rw [tp_bt_n0]; exact ⟨fun q => (by cases q), fun q => absurd q.1 (Nat.not_lt_zero _)⟩⟩
  have := loop 0 (by decide) none none none False a ⟨fun _ _ _ => rfl, tp_PR_cg (tp_PR_refl P (a 9)) Iff.rfl (fun i h => absurd h.2 (Nat.not_lt_zero _))⟩
  rw [tp_bz_f (c := False) id] at this
  exact this
theorem tp_decm (v : Int32) : v + Int32.ofInt (-1) = v - nI 1 := by rw [Int32.sub_eq_add_neg, show Int32.ofInt (-1) = -nI 1 by decide]
theorem mX0_findEndless {P : tp_P} (okP : tp_okP P) (a : tz_S) (hP : tp_has P a) (hin : ∀ i, i < 256 → ∀ y, tp_bt (a 6 i) y = true → i / 16 < P.1 ∧ y < 16) : tz_Mv IX0 yX0_findEndless cX0_findEndless 5 6 [] a (fun u => (∀ k, k ≤ 11 → k ≠ 9 → u k = a k) ∧ tp_GF P (a 6) (u 9)) := by
  have hpL := okP.1
  refine tz_enterv (by decide) rfl (Nat.le_of_ble_eq_true rfl) (fun E C R => ?_)
  show tz_Z _ E 0 [some (.ref (tz_h E 0)), none, none, none, none] [] _
  refine tz_iconst (v := nI 0) C dX0_findEndless_0 (by decide) ?_
  refine tz_istore_1 C dX0_findEndless_1 ?_
  have body : ∀ u0 : tz_S, ((∀ k, k ≠ 9 → u0 k = a k) ∧ ∀ i, i < 256 → u0 9 i = a 6 i) → tz_Z IX0 E 27 [some (.ref (tz_h E 0)), some (.int (nI 256)), none, none, none] [] u0 := by
    intro u0 h0
    refine tz_iconst (v := nI 1) C dX0_findEndless_27 (by decide) ?_
    refine tz_istore_1 C dX0_findEndless_28 ?_
    refine tz_iconst (v := nI 0) C dX0_findEndless_29 (by decide) ?_
    refine tz_istore_2 C dX0_findEndless_30 ?_
    have loop : ∀ n, n ≤ 4097 → ∀ (o3 o4 : Option Value) (l : Prop) (u : tz_S), ((∀ k, k ≤ 11 → k ≠ 9 → u k = a k) ∧ (∀ i, i < 256 → ∀ y, tp_bt (u 9 i) y = true → tp_bt (a 6 i) y = true) ∧ (∀ C : Nat → Nat → Prop, (∀ i y, C i y → ∃ i' y', tp_stp P i y i' y' ∧ C i' y') → (∀ i y, C i y → i < 256 ∧ tp_bt (a 6 i) y = true) → ∀ i y, C i y → i < 256 ∧ tp_bt (u 9 i) y = true) ∧ (l → tp_tot (fun i y => tp_bt (u 9 i) y) + n ≤ 4096) ∧ (¬ l → ∀ i, i < 256 → ∀ y, tp_bt (u 9 i) y = true → ∃ i' y', i' < 256 ∧ tp_stp P i y i' y' ∧ tp_bt (u 9 i') y' = true)) → tz_Z IX0 E 31 [some (.ref (tz_h E 0)), some (.int (tp_bz l)), some (.int (nI n)), o3, o4] [] u := by
      refine tz_upto 4097 (fun n hn ih => ?_)
      intro o3 o4 l u hu
      obtain ⟨u1, u2, u3, u4, u5⟩ := hu
      have fin : ¬ l → tp_GF P (a 6) (u 9) := fun q => ⟨u2, u5 q, u3⟩
      refine tz_iload_2 C dX0_findEndless_31 ?_
      refine tz_sipush (v := nI 4096) C dX0_findEndless_32 (by decide) ?_
      refine tz_icmp_gt_n (tgt := 89) C dX0_findEndless_35 (by decide) (fun c35 => ?_) (fun c35 => ?_)
      · have hl : ¬ l := fun q => by have := u4 q; omega
        exact R _ _ _ dX0_findEndless_89 (⟨u1, fin hl⟩)
      · skip
        refine tz_iload_1 C dX0_findEndless_38 ?_
        refine tz_if_eq (tgt := 89) C dX0_findEndless_39 (by decide) (fun c39 => ?_) (fun c39 => ?_)
        · skip
          exact R _ _ _ dX0_findEndless_89 (⟨u1, fin (tp_bz_0.mp c39)⟩)
        · have hl : l := Classical.byContradiction fun q => c39 (tp_bz_0.mpr q)
          have e0 : u 0 0 = nI P.1 := by rw [u1 0 (by decide) (by decide)]; exact hP.1
          refine tz_iconst (v := nI 0) C dX0_findEndless_42 (by decide) ?_
          refine tz_istore_1 C dX0_findEndless_43 ?_
          refine tz_aload_0 C dX0_findEndless_44 ?_
          refine tz_getI okX0 C 0 dX0_findEndless_45 rfl (by decide) q38 ?_
          refine tz_top (e0) ?_
          refine tz_iconst (v := nI 1) C dX0_findEndless_48 (by decide) ?_
          refine tz_isub C dX0_findEndless_49 ?_
          refine tz_istore_3 C dX0_findEndless_50 ?_
          have inner : ∀ m, m ≤ P.1 → ∀ (o4 : Option Value) (b : Prop) (w : tz_S), ((∀ k, k ≤ 11 → k ≠ 9 → w k = a k) ∧ tp_PR P (u 9) (w 9) b (fun i => m ≤ i / 16 ∧ i / 16 < P.1)) → tz_Z IX0 E 51 [some (.ref (tz_h E 0)), some (.int (tp_bz b)), some (.int (nI n)), some (.int (nI m - nI 1)), o4] [] w := by
            intro m
            induction m with
            | zero =>
              intro hm o4 b w hw
              obtain ⟨w1, w2⟩ := hw
              refine tz_iload_3 C dX0_findEndless_51 ?_
              refine tz_if_lt (tgt := 83) C dX0_findEndless_52 (by decide) (fun c52 => ?_) (fun c52 => ?_)
              · skip
                refine tz_iinc_2_n C dX0_findEndless_83 ?_
                refine tz_goto (tgt := 31) C dX0_findEndless_86 (by decide) ?_
                refine ih (by omega) _ _ b w ⟨w1, fun i hi y h => u2 i hi y (w2.1 i hi y h), fun C c1 c2 => w2.2.2.2 C c1 (u3 C c1 c2), fun q => ?_, fun q i hi y h => ?_⟩
                · obtain ⟨i, y, g1, g2, g3⟩ := w2.2.1 q
                  have hy := (hin i g1 y (u2 i g1 y g2)).2
                  have := tp_tot_strict (S := fun i y => tp_bt (w 9 i) y) (T := fun i y => tp_bt (u 9 i) y) (fun i hi y _ h => w2.1 i hi y h) ⟨i, y, g1, hy, by simpa using g3, g2⟩
                  have := u4 hl
                  omega
                · obtain ⟨g1, g2⟩ := w2.2.2.1 q
                  rw [g1 i hi] at h
                  obtain ⟨i', y', k1, k2, k3⟩ := g2 i hi ⟨Nat.zero_le _, (hin i hi y (u2 i hi y h)).1⟩ y h
                  exact ⟨i', y', k1, k2, by rw [g1 i' k1]; exact k3⟩
              · exact absurd (by decide) c52
            | succ m ihm =>
              intro hm o4 b w hw
              obtain ⟨w1, w2⟩ := hw
              rw [show nI (m + 1) - nI 1 = nI m from nI_pred m]
              refine tz_iload_3 C dX0_findEndless_51 ?_
              refine tz_if_lt (tgt := 83) C dX0_findEndless_52 (by decide) (fun c52 => ?_) (fun c52 => ?_)
              · exact absurd c52 (nI_pos (by omega))
              · skip
                refine tz_aload_0 C dX0_findEndless_55 ?_
                refine tz_iload_3 C dX0_findEndless_56 ?_
                refine tz_call1 okX0 C vX0_prune (mX0_prune okP (show m < P.1 by omega) w (tp_has_kept hP (fun k hk => w1 k (by omega) (by omega))) (fun i hi y h => (hin i hi y (u2 i hi y (w2.1 i hi y h))).2)) dX0_findEndless_57 (fun r v hv => ?_)
                obtain ⟨v1, b2, hr, v2⟩ := hv
                subst hr
                have t76 : tz_Z IX0 E 76 [some (.ref (tz_h E 0)), some (.int (tp_bz b)), some (.int (nI n)), some (.int (nI m)), some (.int (tp_bz b2))] [.int (tp_bz (b ∨ b2))] v := by
                  refine tz_istore_1 C dX0_findEndless_76 ?_
                  refine tz_iinc_3 C dX0_findEndless_77 (tp_decm (nI m)) ?_
                  refine tz_goto (tgt := 51) C dX0_findEndless_80 (by decide) ?_
                  exact ihm (by omega) _ (b ∨ b2) v ⟨fun k h1 h2 => (v1 k h1 h2).trans (w1 k h1 h2), tp_PR_cg (tp_PR_comp w2 v2) Iff.rfl (fun i h => by omega)⟩
                refine tz_istore_4 C dX0_findEndless_60 ?_
                refine tz_iload_1 C dX0_findEndless_62 ?_
                refine tz_if_ne (tgt := 71) C dX0_findEndless_63 (by decide) (fun c63 => ?_) (fun c63 => ?_)
                · have hb : b := Classical.byContradiction fun q => c63 (tp_bz_0.mpr q)
                  refine tz_iconst (v := nI 1) C dX0_findEndless_71 (by decide) ?_
                  refine tz_goto (tgt := 76) C dX0_findEndless_72 (by decide) ?_
                  rw [tp_bz_t (c := b ∨ b2) (Or.inl hb)] at t76
                  exact t76
                · skip
                  refine tz_iload_4 C dX0_findEndless_66 ?_
                  refine tz_if_eq (tgt := 75) C dX0_findEndless_68 (by decide) (fun c68 => ?_) (fun c68 => ?_)
                  · skip
                    refine tz_iconst (v := nI 0) C dX0_findEndless_75 (by decide) ?_
                    rw [tp_bz_f (c := b ∨ b2) (fun q => q.elim (tp_bz_0.mp c63) (tp_bz_0.mp c68))] at t76
                    exact t76
                  · have hb : b2 := Classical.byContradiction fun q => c68 (tp_bz_0.mpr q)
                    refine tz_iconst (v := nI 1) C dX0_findEndless_71 (by decide) ?_
                    refine tz_goto (tgt := 76) C dX0_findEndless_72 (by decide) ?_
                    rw [tp_bz_t (c := b ∨ b2) (Or.inr hb)] at t76
                    exact t76
          have := inner P.1 (Nat.le_refl _) o4 False u ⟨u1, tp_PR_cg (tp_PR_refl P (u 9)) Iff.rfl (fun i h => by omega)⟩
          rw [tp_bz_f (c := False) id] at this
          exact this
    have := loop 0 (by decide) none none True u0 ⟨fun k h1 h2 => h0.1 k h2, fun i hi y h => by rw [← h0.2 i hi]; exact h, fun C c1 c2 i y h => ⟨(c2 i y h).1, by rw [h0.2 i (c2 i y h).1]; exact (c2 i y h).2⟩, fun _ => Nat.le_trans (Nat.le_of_eq (Nat.add_zero _)) (tp_tot_le _), fun q => absurd trivial q⟩
    rw [tp_bz_t (c := True) trivial] at this
    exact this
  have loop : ∀ i, i ≤ 256 → ∀ u : tz_S, ((∀ k, k ≠ 9 → u k = a k) ∧ ∀ i', i' < i → u 9 i' = a 6 i') → tz_Z IX0 E 2 [some (.ref (tz_h E 0)), some (.int (nI i)), none, none, none] [] u := by
    refine tz_upto 256 (fun i hi ih => ?_)
    intro u hu
    refine tz_iload_1 C dX0_findEndless_2 ?_
    refine tz_sipush (v := nI 256) C dX0_findEndless_3 (by decide) ?_
    refine tz_icmp_ge_n (tgt := 27) C dX0_findEndless_6 (by decide) (fun c6 => ?_) (fun c6 => ?_)
    · have hi256 : i = 256 := by omega
      subst hi256
      exact body u hu
    · skip
      refine tz_aload_0 C dX0_findEndless_9 ?_
      refine tz_getA okX0 C 9 dX0_findEndless_10 rfl q47 ?_
      refine tz_iload_1 C dX0_findEndless_13 ?_
      refine tz_aload_0 C dX0_findEndless_14 ?_
      refine tz_getA okX0 C 6 dX0_findEndless_15 rfl q44 ?_
      refine tz_iload_1 C dX0_findEndless_18 ?_
      refine tz_iald okX0 C dX0_findEndless_19 rfl ?_
      refine tz_iast okX0 C dX0_findEndless_20 rfl ?_
      refine tz_iinc_1_n C dX0_findEndless_21 ?_
      refine tz_goto (tgt := 2) C dX0_findEndless_24 (by decide) ?_
      refine ih c6 _ ⟨fun k hk => by rw [tz_sw_o _ _ _ hk]; exact hu.1 k hk, fun i' hi' => ?_⟩
      rw [tz_sw_at]
      by_cases h : i' = i
      · rw [if_pos h, h, hu.1 6 (by decide)]
      · rw [if_neg h]; exact hu.2 i' (by omega)
  exact loop 0 (by decide) a ⟨fun _ _ => rfl, fun i' hi' => absurd hi' (Nat.not_lt_zero _)⟩
end
section
/-! a level settled; answers; the program's changes -/
theorem tp_LV_settle {P : tp_P} (ok : tp_okP P) {n : Nat} (hn : n ≤ 4096) {hv nw hv' fr fs fs' : Nat → Int32} (h1 : ∀ i, i < 256 → ∀ y, tp_bt (nw i) y = true ↔ tp_F P n i y) (h2 : ∀ i, i < 256 → ∀ y, tp_H P n i y ↔ tp_bt (hv i) y = true ∨ tp_F P n i y) (h3 : ∀ i, i < 256 → fr i = nw i ∧ hv' i = hv i ||| nw i) (h4 : ∀ p, p < 16 → tp_FS P n p (fs p))
    (h5 : ∀ p, p < 16 → ((fs p = -5 ∧ ∃ i, i < 256 ∧ i / 16 = p ∧ ¬ nw i = 0) → fs' p = nI n) ∧ (¬ (fs p = -5 ∧ ∃ i, i < 256 ∧ i / 16 = p ∧ ¬ nw i = 0) → fs' p = fs p)) : tp_LV P n hv' fr fs' := by
  have hx : ∀ p, (∃ i, i < 256 ∧ i / 16 = p ∧ ¬ nw i = 0) ↔ ∃ i y, i / 16 = p ∧ tp_F P n i y := fun p => by
    constructor
    · rintro ⟨i, g1, g2, g3⟩
      obtain ⟨y, g3⟩ := tp_ne0.mp g3
      exact ⟨i, y, g2, (h1 i g1 y).mp g3⟩
    · rintro ⟨i, y, g1, g2⟩
      have := (tp_F_in ok g2).2.1
      exact ⟨i, this, g1, tp_ne0.mpr ⟨y, (h1 i this y).mpr g2⟩⟩
  refine ⟨fun i hi y => ?_, fun i hi y => ?_, fun p hp => ?_⟩
  · rw [(h3 i hi).2, tp_bt_or, Bool.or_eq_true, h2 i hi y, h1 i hi y]
  · rw [(h3 i hi).1]; exact h1 i hi y
  · obtain ⟨g1, g2⟩ := h5 p hp
    rw [hx p] at g1 g2
    exact tp_FS_step hn (h4 p hp) g1 g2
theorem tp_new_bz {P : tp_P} (ok : tp_okP P) {n : Nat} {nw : Nat → Int32} (h1 : ∀ i, i < 256 → ∀ y, tp_bt (nw i) y = true ↔ tp_F P n i y) : tp_bz (∃ i, i < 256 ∧ ¬ nw i = 0) = tp_bz (∃ i y, tp_F P n i y) := by
  refine tp_bz_cg ⟨?_, ?_⟩
  · rintro ⟨i, g1, g3⟩
    obtain ⟨y, g3⟩ := tp_ne0.mp g3
    exact ⟨i, y, (h1 i g1 y).mp g3⟩
  · rintro ⟨i, y, g2⟩
    have := (tp_F_in ok g2).2.1
    exact ⟨i, this, tp_ne0.mpr ⟨y, (h1 i this y).mpr g2⟩⟩
theorem tp_Done_of {P : tp_P} {k : Nat} (hk : k ≤ 4096) {hv fr fs al : Nat → Int32} {en : Int32} (h : tp_LV P k hv fr fs) (he : ∀ i y, ¬ tp_F P k i y) (hg : tp_GF P hv al) (hen : en = tp_bz (∃ j i y, j < k ∧ tp_F P j i y ∧ tp_enp P i y)) : tp_Done P hv al fs en := by
  obtain ⟨h1, h2, h3⟩ := h
  refine ⟨fun i hi y => (h1 i hi y).trans (tp_H_end he i y), hg, fun p hp => tp_FS_end hk he (h3 p hp), hen.trans (tp_bz_cg ⟨fun ⟨j, i, y, _, g⟩ => ⟨j, i, y, g⟩, fun ⟨j, i, y, g⟩ => ⟨j, i, y, ?_, g⟩⟩)⟩
  rcases Nat.lt_or_ge j k with q | q
  · exact q
  · have := tp_F_end he (j - k) i y
    rw [show k + (j - k) = j by omega] at this
    exact absurd g.1 this
/-- an answer out of what is worked out -/
def tp_An (P : tp_P) (G : (Nat → Int32) → (Nat → Int32) → (Nat → Int32) → Int32 → Int32) (r : Int32) : Prop := ∃ hv al fs en, tp_Done P hv al fs en ∧ r = G hv al fs en
theorem tp_An_one {P : tp_P} {G : (Nat → Int32) → (Nat → Int32) → (Nat → Int32) → Int32 → Int32} (hG : ∀ hv al fs hv' al' fs' en, (∀ i, i < 256 → hv i = hv' i) → (∀ i, i < 256 → al i = al' i) → (∀ p, p < 16 → fs p = fs' p) → G hv al fs en = G hv' al' fs' en) {r s : Int32} (h : tp_An P G r) (g : tp_An P G s) : r = s := by
  obtain ⟨hv, al, fs, en, h1, rfl⟩ := h
  obtain ⟨hv', al', fs', en', g1, rfl⟩ := g
  obtain ⟨e1, e2, e3, rfl⟩ := tp_Done_one h1 g1
  exact hG _ _ _ _ _ _ _ e1 e2 e3
def tp_trb (o : Nat) (c : Int32) (x y : Nat) : Bool := (decide (o = 6) && decide (y = 0)) || (decide (o = 8) && decide (tp_l5 c ≤ x))
theorem tp_trb_iff (o : Nat) (c : Int32) (x y : Nat) : tp_trb o c x y = true ↔ tp_tr o c x y := by simp [tp_trb, tp_tr]
def tp_cS (hv : Nat → Int32) (q : Nat) : Nat := tp_sm (fun x => tp_cn (tp_bt (hv (q * 16 + x))) 16) 16
def tp_cT (P : tp_P) (hv : Nat → Int32) (q : Nat) : Nat := tp_sm (fun x => tp_cn (fun y => tp_bt (hv (q * 16 + x)) y && tp_trb (P.2.1 q) (P.2.2.1 q) x y) 16) 16
def tp_cE (al : Nat → Int32) : Nat := tp_sm (fun i => tp_cn (tp_bt (al i)) 16) 256
def tp_or (f : Nat → Int32) : Nat → Int32
  | 0 => nI 0
  | n + 1 => tp_or f n ||| f n
noncomputable def tp_xs (f : Nat → Int32) : Nat → Int32
  | 0 => nI 0
  | n + 1 => @ite Int32 (f n = 0) (Classical.propDecidable _) (tp_xs f n) (tp_xs f n ||| nI 1 <<< (nI n &&& 31))
theorem tp_xs_z {f : Nat → Int32} {n : Nat} (h : f n = 0) : tp_xs f (n + 1) = tp_xs f n := if_pos h
theorem tp_xs_n {f : Nat → Int32} {n : Nat} (h : ¬ f n = 0) : tp_xs f (n + 1) = tp_xs f n ||| nI 1 <<< (nI n &&& 31) := if_neg h
theorem tp_or_cg {f g : Nat → Int32} : ∀ n, (∀ i, i < n → f i = g i) → tp_or f n = tp_or g n
  | 0, _ => rfl
  | n + 1, h => by show tp_or f n ||| f n = tp_or g n ||| g n; rw [tp_or_cg n (fun i hi => h i (by omega)), h n (by omega)]
theorem tp_xs_cg {f g : Nat → Int32} : ∀ n, (∀ i, i < n → f i = g i) → tp_xs f n = tp_xs g n
  | 0, _ => rfl
  | n + 1, h => by
    have h1 := tp_xs_cg n (fun i hi => h i (by omega))
    have h2 := h n (by omega)
    by_cases hf : f n = 0
    · rw [tp_xs_z hf, tp_xs_z (h2 ▸ hf), h1]
    · rw [tp_xs_n hf, tp_xs_n (h2 ▸ hf), h1]
theorem tp_cS_cg {f g : Nat → Int32} {q : Nat} (hq : q < 16) (h : ∀ i, i < 256 → f i = g i) : tp_cS f q = tp_cS g q := tp_sm_cg 16 (fun x hx => by rw [h (q * 16 + x) (by omega)])
theorem tp_cT_cg {P : tp_P} {f g : Nat → Int32} {q : Nat} (hq : q < 16) (h : ∀ i, i < 256 → f i = g i) : tp_cT P f q = tp_cT P g q := tp_sm_cg 16 (fun x hx => by rw [h (q * 16 + x) (by omega)])
theorem tp_cE_cg {f g : Nat → Int32} (h : ∀ i, i < 256 → f i = g i) : tp_cE f = tp_cE g := tp_sm_cg 256 (fun i hi => by rw [h i hi])
theorem tp_cS_le (f : Nat → Int32) (q : Nat) : tp_cS f q ≤ 256 := tp_sm_le (b := 16) 16 (fun i _ => tp_cn_le _ 16)
theorem tp_cT_le (P : tp_P) (f : Nat → Int32) (q : Nat) : tp_cT P f q ≤ 256 := tp_sm_le (b := 16) 16 (fun i _ => tp_cn_le _ 16)
theorem tp_cE_le (f : Nat → Int32) : tp_cE f ≤ 4096 := tp_sm_le (b := 16) 256 (fun i _ => tp_cn_le _ 16)
/-- the answers -/
def tp_aStates (P : tp_P) (p r : Int32) : Prop := (tp_nw P.1 p ∧ r = -3) ∨ ∃ q, q < P.1 ∧ p = nI q ∧ tp_An P (fun hv _ _ _ => nI (tp_cS hv q)) r
def tp_aPossible (P : tp_P) (p x y r : Int32) : Prop := ((tp_nw P.1 p ∨ x < 0 ∨ nI 15 < x ∨ y < 0 ∨ nI 15 < y) ∧ r = nI 0) ∨ ∃ q i j, q < P.1 ∧ i < 16 ∧ j < 16 ∧ p = nI q ∧ x = nI i ∧ y = nI j ∧ tp_An P (fun hv _ _ _ => tp_bz (tp_bt (hv (q * 16 + i)) j = true)) r
def tp_aValues (P : tp_P) (p g r : Int32) : Prop := (tp_nw P.1 p ∧ r = -3) ∨ (¬ tp_nw P.1 p ∧ (g < 0 ∨ nI 1 < g) ∧ r = -4) ∨ ∃ q, q < P.1 ∧ p = nI q ∧ ((g = nI 1 ∧ tp_An P (fun hv _ _ _ => tp_or (fun x => hv (q * 16 + x)) 16) r) ∨ (g = nI 0 ∧ tp_An P (fun hv _ _ _ => tp_xs (fun x => hv (q * 16 + x)) 16) r))
def tp_aTraps (P : tp_P) (p r : Int32) : Prop := (tp_nw P.1 p ∧ r = -3) ∨ ∃ q, q < P.1 ∧ p = nI q ∧ tp_An P (fun hv _ _ _ => nI (tp_cT P hv q)) r
def tp_aSafe (P : tp_P) (r : Int32) : Prop := tp_An P (fun hv _ _ _ => tp_bz (∀ q, q < P.1 → tp_cT P hv q = 0)) r
def tp_aSoonest (P : tp_P) (p r : Int32) : Prop := (tp_nw P.1 p ∧ r = -3) ∨ ∃ q, q < P.1 ∧ p = nI q ∧ tp_An P (fun _ _ fs _ => fs q) r
def tp_aCanEnd (P : tp_P) (r : Int32) : Prop := tp_An P (fun _ _ _ en => en) r
def tp_aEndless (P : tp_P) (r : Int32) : Prop := tp_An P (fun _ al _ _ => nI (tp_cE al)) r
def tp_aForever (P : tp_P) (r : Int32) : Prop := tp_An P (fun _ al _ _ => tp_bz (0 < tp_cE al)) r
theorem tp_nw_q {L q : Nat} {p : Int32} (hL : L ≤ 16) (hq : q < L) (e : p = nI q) : ¬ tp_nw L p := by
  rw [e, tp_nw_nI (by omega) (by omega)]; omega
theorem tp_q_one {L q q' : Nat} {p : Int32} (hL : L ≤ 16) (hq : q < L) (hq' : q' < L) (e : p = nI q) (e' : p = nI q') : q = q' := (nI_eq (by omega) (by omega)).mp (e.symm.trans e')
theorem tp_aStates_one {P : tp_P} (ok : tp_okP P) {p r s : Int32} (h : tp_aStates P p r) (g : tp_aStates P p s) : r = s := by
  rcases h with ⟨h1, h2⟩ | ⟨q, h1, h2, h3⟩ <;> rcases g with ⟨g1, g2⟩ | ⟨q', g1, g2, g3⟩
  · rw [h2, g2]
  · exact absurd h1 (tp_nw_q ok.1 g1 g2)
  · exact absurd g1 (tp_nw_q ok.1 h1 h2)
  · have := tp_q_one ok.1 h1 g1 h2 g2
    subst this
    have := ok.1
    exact tp_An_one (fun hv al fs hv' al' fs' en e1 e2 e3 => by rw [tp_cS_cg (by omega) e1]) h3 g3
theorem tp_aPossible_one {P : tp_P} (ok : tp_okP P) {p x y r s : Int32} (h : tp_aPossible P p x y r) (g : tp_aPossible P p x y s) : r = s := by
  have key : ∀ {q i j : Nat}, q < P.1 → i < 16 → j < 16 → p = nI q → x = nI i → y = nI j → ¬ (tp_nw P.1 p ∨ x < 0 ∨ nI 15 < x ∨ y < 0 ∨ nI 15 < y) := by
    intro q i j hq hi hj e1 e2 e3 h
    rcases h with h | h | h | h | h
    · exact tp_nw_q ok.1 hq e1 h
    · rw [e2] at h; exact nI_pos (by omega) h
    · rw [e2, nI_ltI (by decide) (by omega)] at h; omega
    · rw [e3] at h; exact nI_pos (by omega) h
    · rw [e3, nI_ltI (by decide) (by omega)] at h; omega
  rcases h with ⟨h1, h2⟩ | ⟨q, i, j, h1, h2, h3, h4, h5, h6, h7⟩ <;> rcases g with ⟨g1, g2⟩ | ⟨q', i', j', g1, g2, g3, g4, g5, g6, g7⟩
  · rw [h2, g2]
  · exact absurd h1 (key g1 g2 g3 g4 g5 g6)
  · exact absurd g1 (key h1 h2 h3 h4 h5 h6)
  · have e1 := tp_q_one ok.1 h1 g1 h4 g4
    have e2 : i = i' := (nI_eq (by omega) (by omega)).mp (h5.symm.trans g5)
    have e3 : j = j' := (nI_eq (by omega) (by omega)).mp (h6.symm.trans g6)
    subst e1; subst e2; subst e3
    have := ok.1
    exact tp_An_one (fun hv al fs hv' al' fs' en e1 e2 e3 => by rw [e1 (q * 16 + i) (by omega)]) h7 g7
theorem tp_aValues_one {P : tp_P} (ok : tp_okP P) {p x r s : Int32} (h : tp_aValues P p x r) (g : tp_aValues P p x s) : r = s := by
  have z0 : ¬ nI 0 < 0 := by decide
  have z1 : ¬ nI 1 < 0 := by decide
  have z2 : ¬ nI 1 < nI 0 := by decide
  have z3 : ¬ nI 1 < nI 1 := by decide
  have key : ∀ {q : Nat} {r : Int32}, q < P.1 → p = nI q → ((x = nI 1 ∧ tp_An P (fun hv _ _ _ => tp_or (fun x => hv (q * 16 + x)) 16) r) ∨ (x = nI 0 ∧ tp_An P (fun hv _ _ _ => tp_xs (fun x => hv (q * 16 + x)) 16) r)) → ¬ tp_nw P.1 p ∧ ¬ (x < 0 ∨ nI 1 < x) := by
    intro q r h1 h2 h3
    refine ⟨tp_nw_q ok.1 h1 h2, ?_⟩
    rcases h3 with ⟨rfl, -⟩ | ⟨rfl, -⟩
    · rintro (q | q)
      · exact z1 q
      · exact z3 q
    · rintro (q | q)
      · exact z0 q
      · exact z2 q
  rcases h with ⟨h1, h2⟩ | ⟨h1, h2, h3⟩ | ⟨q, h1, h2, h3⟩ <;> rcases g with ⟨g1, g2⟩ | ⟨g1, g2, g3⟩ | ⟨q', g1, g2, g3⟩
  · rw [h2, g2]
  · exact absurd h1 g1
  · exact absurd h1 (key g1 g2 g3).1
  · exact absurd g1 h1
  · rw [h3, g3]
  · exact absurd h2 (key g1 g2 g3).2
  · exact absurd g1 (key h1 h2 h3).1
  · exact absurd g2 (key h1 h2 h3).2
  · have e1 := tp_q_one ok.1 h1 g1 h2 g2
    subst e1
    have := ok.1
    rcases h3 with ⟨rfl, h3⟩ | ⟨rfl, h3⟩ <;> rcases g3 with ⟨e, g3⟩ | ⟨e, g3⟩
    · exact tp_An_one (fun hv al fs hv' al' fs' en e1 e2 e3 => tp_or_cg 16 (fun x hx => e1 (q * 16 + x) (by omega))) h3 g3
    · exact absurd e (by decide)
    · exact absurd e (by decide)
    · exact tp_An_one (fun hv al fs hv' al' fs' en e1 e2 e3 => tp_xs_cg 16 (fun x hx => e1 (q * 16 + x) (by omega))) h3 g3
theorem tp_aTraps_one {P : tp_P} (ok : tp_okP P) {p r s : Int32} (h : tp_aTraps P p r) (g : tp_aTraps P p s) : r = s := by
  rcases h with ⟨h1, h2⟩ | ⟨q, h1, h2, h3⟩ <;> rcases g with ⟨g1, g2⟩ | ⟨q', g1, g2, g3⟩
  · rw [h2, g2]
  · exact absurd h1 (tp_nw_q ok.1 g1 g2)
  · exact absurd g1 (tp_nw_q ok.1 h1 h2)
  · have := tp_q_one ok.1 h1 g1 h2 g2
    subst this
    have := ok.1
    exact tp_An_one (fun hv al fs hv' al' fs' en e1 e2 e3 => by rw [tp_cT_cg (by omega) e1]) h3 g3
theorem tp_aSafe_one {P : tp_P} (ok : tp_okP P) {r s : Int32} (h : tp_aSafe P r) (g : tp_aSafe P s) : r = s :=
  tp_An_one (fun hv al fs hv' al' fs' en e1 e2 e3 => tp_bz_cg ⟨fun z q hq => by have := ok.1; rw [← tp_cT_cg (by omega) e1]; exact z q hq, fun z q hq => by have := ok.1; rw [tp_cT_cg (by omega) e1]; exact z q hq⟩) h g
theorem tp_aSoonest_one {P : tp_P} (ok : tp_okP P) {p r s : Int32} (h : tp_aSoonest P p r) (g : tp_aSoonest P p s) : r = s := by
  rcases h with ⟨h1, h2⟩ | ⟨q, h1, h2, h3⟩ <;> rcases g with ⟨g1, g2⟩ | ⟨q', g1, g2, g3⟩
  · rw [h2, g2]
  · exact absurd h1 (tp_nw_q ok.1 g1 g2)
  · exact absurd g1 (tp_nw_q ok.1 h1 h2)
  · have := tp_q_one ok.1 h1 g1 h2 g2
    subst this
    have := ok.1
    exact tp_An_one (fun hv al fs hv' al' fs' en e1 e2 e3 => e3 q (by omega)) h3 g3
theorem tp_aCanEnd_one {P : tp_P} {r s : Int32} (h : tp_aCanEnd P r) (g : tp_aCanEnd P s) : r = s := tp_An_one (fun hv al fs hv' al' fs' en e1 e2 e3 => rfl) h g
theorem tp_aEndless_one {P : tp_P} {r s : Int32} (h : tp_aEndless P r) (g : tp_aEndless P s) : r = s := tp_An_one (fun hv al fs hv' al' fs' en e1 e2 e3 => by rw [tp_cE_cg e2]) h g
theorem tp_aForever_one {P : tp_P} {r s : Int32} (h : tp_aForever P r) (g : tp_aForever P s) : r = s := tp_An_one (fun hv al fs hv' al' fs' en e1 e2 e3 => by rw [tp_cE_cg e2]) h g
/-- the program's changes: with the answer -/
def tp_emit (P : tp_P) (o c r : Int32) (P' : tp_P) : Prop := ((o < 0 ∨ nI 14 < o) ∧ r = -1 ∧ P' = P) ∨ (¬ (o < 0 ∨ nI 14 < o) ∧ 16 ≤ P.1 ∧ r = -2 ∧ P' = P) ∨ (P.1 < 16 ∧ ∃ q, q ≤ 14 ∧ o = nI q ∧ r = nI P.1 ∧ P' = (P.1 + 1, (fun j => if j = P.1 then q else P.2.1 j), (fun j => if j = P.1 then c else P.2.2.1 j), P.2.2.2.1, P.2.2.2.2))
theorem tp_emit_q {q : Nat} (h : q ≤ 14) : ¬ (nI q < 0 ∨ nI 14 < nI q) := by
  rintro (g | g)
  · exact nI_pos (by omega) g
  · rw [nI_ltI (by decide) (by omega)] at g; omega
theorem tp_emit_one {P P' P'' : tp_P} {o c r s : Int32} (h : tp_emit P o c r P') (g : tp_emit P o c s P'') : r = s ∧ P' = P'' := by
  rcases h with ⟨h1, h2, h3⟩ | ⟨h1, h2, h3, h4⟩ | ⟨h1, q, h2, h3, h4, h5⟩ <;> rcases g with ⟨g1, g2, g3⟩ | ⟨g1, g2, g3, g4⟩ | ⟨g1, q', g2, g3, g4, g5⟩
  · exact ⟨h2.trans g2.symm, h3.trans g3.symm⟩
  · exact absurd h1 g1
  · rw [g3] at h1; exact absurd h1 (tp_emit_q g2)
  · exact absurd g1 h1
  · exact ⟨h3.trans g3.symm, h4.trans g4.symm⟩
  · omega
  · rw [h3] at g1; exact absurd g1 (tp_emit_q h2)
  · omega
  · have e : q = q' := (nI_eq (by omega) (by omega)).mp (h3.symm.trans g3)
    subst e
    exact ⟨h4.trans g4.symm, h5.trans g5.symm⟩
theorem tp_emit_ok {P P' : tp_P} {o c r : Int32} (ok : tp_okP P) (h : tp_emit P o c r P') : tp_okP P' := by
  rcases h with ⟨h1, h2, rfl⟩ | ⟨h1, h2, h3, rfl⟩ | ⟨h1, q, h2, h3, h4, rfl⟩
  · exact ok
  · exact ok
  · refine ⟨h1, fun p => ?_, ok.2.2⟩
    show (if p = P.1 then q else P.2.1 p) ≤ 14
    split
    · exact h2
    · exact ok.2.1 p
def tp_patch (P : tp_P) (p c r : Int32) (P' : tp_P) : Prop := (tp_nw P.1 p ∧ r = -3 ∧ P' = P) ∨ ∃ q, q < P.1 ∧ p = nI q ∧ r = P.2.2.1 q ∧ P' = (P.1, P.2.1, (fun j => if j = q then c else P.2.2.1 j), P.2.2.2.1, P.2.2.2.2)
theorem tp_patch_one {P P' P'' : tp_P} (ok : tp_okP P) {o c r s : Int32} (h : tp_patch P o c r P') (g : tp_patch P o c s P'') : r = s ∧ P' = P'' := by
  rcases h with ⟨h1, h2, h3⟩ | ⟨q, h2, h3, h4, h5⟩ <;> rcases g with ⟨g1, g2, g3⟩ | ⟨q', g2, g3, g4, g5⟩
  · exact ⟨h2.trans g2.symm, h3.trans g3.symm⟩
  · exact absurd h1 (tp_nw_q ok.1 g2 g3)
  · exact absurd g1 (tp_nw_q ok.1 h2 h3)
  · have e := tp_q_one ok.1 h2 g2 h3 g3
    subst e
    exact ⟨h4.trans g4.symm, h5.trans g5.symm⟩
theorem tp_patch_ok {P P' : tp_P} {o c r : Int32} (ok : tp_okP P) (h : tp_patch P o c r P') : tp_okP P' := by
  rcases h with ⟨h1, h2, rfl⟩ | ⟨q, h2, h3, h4, rfl⟩
  · exact ok
  · exact ok
def tp_begin (P : tp_P) (g l h r : Int32) (P' : tp_P) : Prop := ((g < 0 ∨ nI 1 < g ∨ l < 0 ∨ h < l ∨ nI 15 < h) ∧ r = -4 ∧ P' = P) ∨ ∃ i x y, i < 2 ∧ x ≤ y ∧ y ≤ 15 ∧ g = nI i ∧ l = nI x ∧ h = nI y ∧ r = nI 0 ∧ P' = (P.1, P.2.1, P.2.2.1, (fun j => if j = i then x else P.2.2.2.1 j), (fun j => if j = i then y else P.2.2.2.2 j))
theorem tp_begin_one {P P' P'' : tp_P} {g l h r s : Int32} (a : tp_begin P g l h r P') (b : tp_begin P g l h s P'') : r = s ∧ P' = P'' := by
  have key : ∀ {i x y : Nat}, i < 2 → x ≤ y → y ≤ 15 → g = nI i → l = nI x → h = nI y → ¬ (g < 0 ∨ nI 1 < g ∨ l < 0 ∨ h < l ∨ nI 15 < h) := by
    intro i x y h1 h2 h3 e1 e2 e3 q
    rcases q with q | q | q | q | q
    · rw [e1] at q; exact nI_pos (by omega) q
    · rw [e1, nI_ltI (by decide) (by omega)] at q; omega
    · rw [e2] at q; exact nI_pos (by omega) q
    · rw [e2, e3, nI_ltI (by omega) (by omega)] at q; omega
    · rw [e3, nI_ltI (by decide) (by omega)] at q; omega
  rcases a with ⟨h1, h2, h3⟩ | ⟨i, x, y, a1, a2, a3, a4, a5, a6, a7, a8⟩ <;> rcases b with ⟨g1, g2, g3⟩ | ⟨i', x', y', b1, b2, b3, b4, b5, b6, b7, b8⟩
  · exact ⟨h2.trans g2.symm, h3.trans g3.symm⟩
  · exact absurd h1 (key b1 b2 b3 b4 b5 b6)
  · exact absurd g1 (key a1 a2 a3 a4 a5 a6)
  · have e1 : i = i' := (nI_eq (by omega) (by omega)).mp (a4.symm.trans b4)
    have e2 : x = x' := (nI_eq (by omega) (by omega)).mp (a5.symm.trans b5)
    have e3 : y = y' := (nI_eq (by omega) (by omega)).mp (a6.symm.trans b6)
    subst e1; subst e2; subst e3
    exact ⟨a7.trans b7.symm, a8.trans b8.symm⟩
theorem tp_begin_ok {P P' : tp_P} {g l h r : Int32} (ok : tp_okP P) (a : tp_begin P g l h r P') : tp_okP P' := by
  rcases a with ⟨h1, h2, rfl⟩ | ⟨i, x, y, a1, a2, a3, a4, a5, a6, a7, rfl⟩
  · exact ok
  · refine ⟨ok.1, ok.2.1, fun j => ?_⟩
    show (if j = i then x else P.2.2.2.1 j) ≤ (if j = i then y else P.2.2.2.2 j) ∧ (if j = i then y else P.2.2.2.2 j) ≤ 15
    by_cases hj : j = i
    · simp only [hj, if_true]; exact ⟨a2, a3⟩
    · simp only [hj, if_false]; exact ok.2.2 j
def tp_clear (P : tp_P) : tp_P := (0, P.2.1, P.2.2.1, P.2.2.2.1, P.2.2.2.2)
theorem tp_clear_ok {P : tp_P} (ok : tp_okP P) : tp_okP (tp_clear P) := ⟨Nat.zero_le _, ok.2.1, ok.2.2⟩
/-- TrapProver's fields hold the program P, and what is worked out if it says so -/
def tp_R0 (P : tp_P) (a : tz_S) : Prop := tp_has P a ∧ a 5 0 = nI 1 ∧ tp_Done P (a 6) (a 9) (a 10) (a 11 0)
def tp_V0 (P : tp_P) (a : tz_S) : Prop := tp_has P a ∧ ∃ rd : Prop, a 5 0 = tp_bz rd ∧ (rd → tp_Done P (a 6) (a 9) (a 10) (a 11 0))
theorem tp_R0_V0 {P : tp_P} {a : tz_S} (h : tp_R0 P a) : tp_V0 P a := ⟨h.1, True, h.2.1.trans (tp_bz_t trivial).symm, fun _ => h.2.2⟩
theorem tp_V0_has {P : tp_P} {a : tz_S} (h : tp_has P a) (h5 : a 5 0 = nI 0) : tp_V0 P a := ⟨h, False, h5.trans (tp_bz_f id).symm, fun q => q.elim⟩
end
section
/-! TrapProver: prepare -/
set_option maxRecDepth 100000
theorem mX0_prepare {P : tp_P} (okP : tp_okP P) (a : tz_S) (hV : tp_V0 P a) : tz_Mv IX0 yX0_prepare cX0_prepare 4 7 [] a (tp_R0 P) := by
  obtain ⟨hP, rd, h5, hdone⟩ := hV
  have okL := okP.1
  obtain ⟨ok01, ok02⟩ := okP.2.2 0
  obtain ⟨ok11, ok12⟩ := okP.2.2 1
  refine tz_enterv (by decide) rfl (Nat.le_of_ble_eq_true rfl) (fun E C R => ?_)
  show tz_Z _ E 0 [some (.ref (tz_h E 0)), none, none, none] [] _
  refine tz_aload_0 C dX0_prepare_0 ?_
  refine tz_getI okX0 C 5 dX0_prepare_1 rfl (by decide) q43 ?_
  refine tz_top (h5) ?_
  rcases tp_bz_or rd with ⟨hr, hz⟩ | ⟨hr, hz⟩
  · rw [hz]
    refine tz_if_eq (tgt := 8) C dX0_prepare_4 (by decide) (fun c4 => ?_) (fun c4 => ?_)
    · exact absurd c4 tp_n10
    · skip
      exact R _ _ _ dX0_prepare_7 (⟨hP, h5.trans hz, hdone hr⟩)
  · rw [hz]
    refine tz_if_eq (tgt := 8) C dX0_prepare_4 (by decide) (fun c4 => ?_) (fun c4 => ?_)
    · skip
      refine tz_aload_0 C dX0_prepare_8 ?_
      refine tz_iconst (v := nI 1) C dX0_prepare_9 (by decide) ?_
      refine tz_putI okX0 C 5 dX0_prepare_10 rfl (by decide) q43 (by first | rfl | decide) (by first | rfl | decide) ?_
      refine tz_aload_0 C dX0_prepare_13 ?_
      refine tz_iconst (v := nI 0) C dX0_prepare_14 (by decide) ?_
      refine tz_putI okX0 C 11 dX0_prepare_15 rfl (by decide) q49 (by first | rfl | decide) (by first | rfl | decide) ?_
      refine tz_iconst (v := nI 0) C dX0_prepare_18 (by decide) ?_
      refine tz_istore_1 C dX0_prepare_19 ?_
      -- what stays all through: the program, ready = true
      have loop5 : ∀ n, n ≤ 4096 → ∀ (o1 : Option Value) (u : tz_S), ((∀ k, k ≤ 4 → u k = a k) ∧ u 5 0 = nI 1 ∧ tp_LV P n (u 6) (u 7) (u 10) ∧ tp_CT P n (u 6) ∧ u 11 0 = tp_bz (∃ j i y, j < n ∧ tp_F P j i y ∧ tp_enp P i y)) → tz_Z IX0 E 145 [some (.ref (tz_h E 0)), o1, some (.int (tp_bz (∃ i y, tp_F P n i y))), some (.int (nI (n + 1)))] [] u := by
        refine tz_upto 4096 (fun n hn ih => ?_)
        intro o1 u hu
        obtain ⟨u1, u2, u3, u4, u5⟩ := hu
        have hPu : tp_has P u := tp_has_kept hP u1
        have fin : (∀ i y, ¬ tp_F P n i y) → ∀ o2 o3 : Option Value, tz_Z IX0 E 172 [some (.ref (tz_h E 0)), o1, o2, o3] [] u := by
          intro he o2 o3
          refine tz_aload_0 C dX0_prepare_172 ?_
          refine tz_callv0 okX0 C vX0_findEndless (mX0_findEndless okP u hPu (fun i hi y h => by have := tp_H_in okP ((u3.1 i hi y).mp h); exact ⟨this.1, this.2.2⟩)) dX0_prepare_173 (fun w hw => ?_)
          refine R _ _ _ dX0_prepare_176 ⟨tp_has_kept hPu (fun k hk => hw.1 k (by omega) (by omega)), by rw [hw.1 5 (by decide) (by decide)]; exact u2, ?_⟩
          rw [hw.1 6 (by decide) (by decide), hw.1 10 (by decide) (by decide), hw.1 11 (by decide) (by decide)]
          exact tp_Done_of hn u3 he hw.2 u5
        refine tz_iload_3 C dX0_prepare_145 ?_
        refine tz_sipush (v := nI 4096) C dX0_prepare_146 (by decide) ?_
        refine tz_icmp_gt_n (tgt := 172) C dX0_prepare_149 (by decide) (fun c149 => ?_) (fun c149 => ?_)
        · exact fin (tp_CT_end u4 (by omega)) _ _
        · skip
          refine tz_iload_2 C dX0_prepare_152 ?_
          refine tz_if_eq (tgt := 172) C dX0_prepare_153 (by decide) (fun c153 => ?_) (fun c153 => ?_)
          · exact fin (fun i y q => tp_bz_0.mp c153 ⟨i, y, q⟩) _ _
          · have hne : ∃ i y, tp_F P n i y := Classical.byContradiction fun q => c153 (tp_bz_0.mpr q)
            refine tz_aload_0 C dX0_prepare_156 ?_
            refine tz_callv0 okX0 C vX0_passOn (mX0_passOn okP u hPu _ u5 (fun i hi y h => (tp_F_in okP ((u3.2.1 i hi y).mp h)).2.2)) dX0_prepare_157 (fun v hv => ?_)
            obtain ⟨v1, v2, v3⟩ := hv
            refine tz_aload_0 C dX0_prepare_160 ?_
            refine tz_iload_3 C dX0_prepare_161 ?_
            refine tz_call1 okX0 C vX0_settle (mX0_settle (lv := n + 1) (by omega) v) dX0_prepare_162 (fun r w hw => ?_)
            obtain ⟨w1, w2, w3, hr⟩ := hw
            have v6 : v 6 = u 6 := v1 6 (by decide)
            have v10 : v 10 = u 10 := v1 10 (by decide)
            have hcm : ∀ i, i < 256 → ∀ y, tp_bt (v 8 i) y = true ↔ ∃ i0 y0, tp_F P n i0 y0 ∧ tp_stp P i0 y0 i y := fun i hi y => by
              rw [v3 i hi y]
              constructor
              · rintro ⟨i0, y0, g1, g2, g3⟩
                exact ⟨i0, y0, (u3.2.1 i0 g1 y0).mp g2, g3⟩
              · rintro ⟨i0, y0, g2, g3⟩
                have g1 := (tp_F_in okP g2).2.1
                exact ⟨i0, y0, g1, (u3.2.1 i0 g1 y0).mpr g2, g3⟩
            have hnw : ∀ i, i < 256 → ∀ y, tp_bt (tp_nw8 v i) y = true ↔ tp_F P (n + 1) i y := fun i hi y => by
              rw [tp_nw8_bt, hcm i hi y, v6, u3.1 i hi y]; exact Iff.rfl
            have hLV : tp_LV P (n + 1) (w 6) (w 7) (w 10) := tp_LV_settle okP (by omega) (hv := v 6) (nw := tp_nw8 v) (fs := v 10) hnw (fun i hi y => by
              rw [v6, u3.1 i hi y]; exact Iff.rfl) w2 (fun p hp => by rw [v10]; exact u3.2.2 p hp) w3
            have hCT : tp_CT P (n + 1) (w 6) := tp_CT_step okP u4 hne u3.1 hLV.1
            rw [tp_new_bz okP hnw] at hr
            subst hr
            refine tz_istore_2 C dX0_prepare_165 ?_
            refine tz_iinc_3_n C dX0_prepare_166 ?_
            refine tz_goto (tgt := 145) C dX0_prepare_169 (by decide) ?_
            refine ih (by omega) _ w ⟨fun k hk => ?_, ?_, hLV, hCT, ?_⟩
            · rw [w1 k (by omega) (by omega) (by omega), v1 k (by omega)]; exact u1 k hk
            · rw [w1 5 (by decide) (by decide) (by decide), v1 5 (by decide)]; exact u2
            · rw [w1 11 (by decide) (by decide) (by decide), v2]
              refine tp_bz_cg ⟨?_, ?_⟩
              · rintro (⟨j, i, y, g1, g2⟩ | ⟨i, y, g1, g2, g3⟩)
                · exact ⟨j, i, y, by omega, g2⟩
                · exact ⟨n, i, y, by omega, (u3.2.1 i g1 y).mp g2, g3⟩
              · rintro ⟨j, i, y, g1, g2, g3⟩
                rcases Nat.lt_or_ge j n with q | q
                · exact Or.inl ⟨j, i, y, q, g2, g3⟩
                · have : j = n := by omega
                  subst this
                  have := (tp_F_in okP g2).2.1
                  exact Or.inr ⟨i, y, this, (u3.2.1 i this y).mpr g2, g3⟩
      have t137 : ∀ (o1 o2 : Option Value) (u : tz_S), ((∀ k, k ≤ 4 → u k = a k) ∧ u 5 0 = nI 1 ∧ u 11 0 = nI 0 ∧ (∀ i, i < 256 → u 6 i = nI 0) ∧ (∀ p, p < 16 → u 10 p = -5) ∧ ∀ i, i < 256 → ∀ y, tp_bt (u 8 i) y = true ↔ tp_ini P i y) → tz_Z IX0 E 137 [some (.ref (tz_h E 0)), o1, o2, none] [] u := by
        intro o1 o2 u hu
        obtain ⟨u1, u2, u3, u4, u5, u6⟩ := hu
        refine tz_aload_0 C dX0_prepare_137 ?_
        refine tz_iconst (v := nI 0) C dX0_prepare_138 (by decide) ?_
        refine tz_call1 okX0 C vX0_settle (mX0_settle (lv := 0) (by omega) u) dX0_prepare_139 (fun r w hw => ?_)
        obtain ⟨w1, w2, w3, hr⟩ := hw
        have hnw : ∀ i, i < 256 → ∀ y, tp_bt (tp_nw8 u i) y = true ↔ tp_F P 0 i y := fun i hi y => by
          rw [tp_nw8_bt, u6 i hi y, u4 i hi, tp_bt_n0]; simp; exact Iff.rfl
        have hLV : tp_LV P 0 (w 6) (w 7) (w 10) := tp_LV_settle okP (by omega) (hv := u 6) (nw := tp_nw8 u) (fs := u 10) hnw (fun i hi y => by
          rw [u4 i hi, tp_bt_n0]; simp; exact Iff.rfl) w2 (fun p hp => by rw [u5 p hp]; exact tp_FS_0 P p) w3
        rw [tp_new_bz okP hnw] at hr
        subst hr
        refine tz_istore_2 C dX0_prepare_142 ?_
        refine tz_iconst (v := nI 1) C dX0_prepare_143 (by decide) ?_
        refine tz_istore_3 C dX0_prepare_144 ?_
        refine loop5 0 (by decide) _ w ⟨fun k hk => ?_, ?_, hLV, tp_CT_0 okP hLV.1, ?_⟩
        · rw [w1 k (by omega) (by omega) (by omega)]; exact u1 k hk
        · rw [w1 5 (by decide) (by decide) (by decide)]; exact u2
        · rw [w1 11 (by decide) (by decide) (by decide), u3]
          exact (tp_bz_f (fun ⟨j, i, y, g, _⟩ => absurd g (Nat.not_lt_zero _))).symm
      have t100 : ∀ (row : Int32) (o2 : Option Value) (u : tz_S), ((∀ k, k ≤ 4 → u k = a k) ∧ u 5 0 = nI 1 ∧ u 11 0 = nI 0 ∧ (∀ i, i < 256 → u 6 i = nI 0) ∧ (∀ p, p < 16 → u 10 p = -5) ∧ (∀ i, i < 256 → u 8 i = nI 0)) → (∀ y, tp_bt row y = true ↔ P.2.2.2.1 1 ≤ y ∧ y ≤ P.2.2.2.2 1) → tz_Z IX0 E 100 [some (.ref (tz_h E 0)), some (.int row), o2, none] [] u := by
        intro row o2 u hu hrow
        obtain ⟨u1, u2, u3, u4, u5, u6⟩ := hu
        have l0 : u 3 0 = nI (P.2.2.2.1 0) := by rw [u1 3 (by decide)]; exact hP.2.2.2.1 0
        refine tz_aload_0 C dX0_prepare_100 ?_
        refine tz_getA okX0 C 3 dX0_prepare_101 rfl q41 ?_
        refine tz_iconst (v := nI 0) C dX0_prepare_104 (by decide) ?_
        refine tz_iald okX0 C dX0_prepare_105 rfl ?_
        refine tz_top (l0) ?_
        refine tz_istore_2 C dX0_prepare_106 ?_
        have loop : ∀ x, x ≤ P.2.2.2.2 0 + 1 → P.2.2.2.1 0 ≤ x → ∀ u : tz_S, ((∀ k, k ≤ 4 → u k = a k) ∧ u 5 0 = nI 1 ∧ u 11 0 = nI 0 ∧ (∀ i, i < 256 → u 6 i = nI 0) ∧ (∀ p, p < 16 → u 10 p = -5) ∧ (∀ i, i < 256 → ∀ y, tp_bt (u 8 i) y = true ↔ 0 < P.1 ∧ P.2.2.2.1 0 ≤ i ∧ i < x ∧ P.2.2.2.1 1 ≤ y ∧ y ≤ P.2.2.2.2 1)) → tz_Z IX0 E 107 [some (.ref (tz_h E 0)), some (.int row), some (.int (nI x)), none] [] u := by
          refine tz_upto (P.2.2.2.2 0 + 1) (fun x hx ih => ?_)
          intro hlx u hu
          obtain ⟨u1, u2, u3, u4, u5, u6⟩ := hu
          have h4 : u 4 0 = nI (P.2.2.2.2 0) := by rw [u1 4 (by decide)]; exact hP.2.2.2.2 0
          have h0 : u 0 0 = nI P.1 := by rw [u1 0 (by decide)]; exact hP.1
          refine tz_iload_2 C dX0_prepare_107 ?_
          refine tz_aload_0 C dX0_prepare_108 ?_
          refine tz_getA okX0 C 4 dX0_prepare_109 rfl q42 ?_
          refine tz_iconst (v := nI 0) C dX0_prepare_112 (by decide) ?_
          refine tz_iald okX0 C dX0_prepare_113 rfl ?_
          refine tz_top (h4) ?_
          refine tz_icmp_gt_n (tgt := 137) C dX0_prepare_114 (by decide) (fun c114 => ?_) (fun c114 => ?_)
          · refine t137 _ _ u ⟨u1, u2, u3, u4, u5, fun i hi y => (u6 i hi y).trans ?_⟩
            unfold tp_ini
            constructor
            · rintro ⟨g1, g2, g3, g4, g5⟩; exact ⟨g1, g2, by omega, g4, g5⟩
            · rintro ⟨g1, g2, g3, g4, g5⟩; exact ⟨g1, g2, by omega, g4, g5⟩
          · skip
            refine tz_aload_0 C dX0_prepare_117 ?_
            refine tz_getI okX0 C 0 dX0_prepare_118 rfl (by decide) q38 ?_
            refine tz_top (h0) ?_
            refine tz_if_le (tgt := 137) C dX0_prepare_121 (by decide) (fun c121 => ?_) (fun c121 => ?_)
            · have hL0 : P.1 = 0 := by
                rcases Nat.eq_zero_or_pos P.1 with q | q
                · exact q
                · exact absurd c121 (nI_nle q (by omega))
              refine t137 _ _ u ⟨u1, u2, u3, u4, u5, fun i hi y => (u6 i hi y).trans ?_⟩
              unfold tp_ini
              exact ⟨fun q => absurd q.1 (by omega), fun q => absurd q.1 (by omega)⟩
            · have hL0 : 0 < P.1 := by
                rcases Nat.eq_zero_or_pos P.1 with q | q
                · rw [q] at c121; exact absurd (by decide) c121
                · exact q
              refine tz_aload_0 C dX0_prepare_124 ?_
              refine tz_getA okX0 C 8 dX0_prepare_125 rfl q46 ?_
              refine tz_iload_2 C dX0_prepare_128 ?_
              refine tz_iload_1 C dX0_prepare_129 ?_
              refine tz_iast okX0 C dX0_prepare_130 rfl ?_
              refine tz_iinc_2_n C dX0_prepare_131 ?_
              refine tz_goto (tgt := 107) C dX0_prepare_134 (by decide) ?_
              refine ih (by omega) (by omega) _ ⟨fun k hk => by rw [tz_sw_o _ _ _ (by omega)]; exact u1 k hk, by rw [tz_sw_o _ _ _ (by decide)]; exact u2, by rw [tz_sw_o _ _ _ (by decide)]; exact u3, fun i hi => by rw [tz_sw_o _ _ _ (by decide)]; exact u4 i hi, fun p hp => by rw [tz_sw_o _ _ _ (by decide)]; exact u5 p hp, fun i hi y => ?_⟩
              rw [tz_sw_at]
              by_cases h : i = x
              · rw [if_pos h, hrow y]
                constructor
                · rintro ⟨g1, g2⟩; exact ⟨hL0, by omega, by omega, g1, g2⟩
                · rintro ⟨_, _, _, g1, g2⟩; exact ⟨g1, g2⟩
              · rw [if_neg h, u6 i hi y]
                constructor
                · rintro ⟨g1, g2, g3, g4⟩; exact ⟨g1, g2, by omega, g4⟩
                · rintro ⟨g1, g2, g3, g4⟩; exact ⟨g1, g2, by omega, g4⟩
        refine loop _ (by omega) (Nat.le_refl _) u ⟨u1, u2, u3, u4, u5, fun i hi y => ?_⟩
        rw [u6 i hi, tp_bt_n0]
        exact ⟨fun q => (by cases q), fun ⟨_, g1, g2, _⟩ => absurd g1 (by omega)⟩
      have t69 : ∀ (o1 : Option Value) (u : tz_S), ((∀ k, k ≤ 4 → u k = a k) ∧ u 5 0 = nI 1 ∧ u 11 0 = nI 0 ∧ (∀ i, i < 256 → u 6 i = nI 0) ∧ (∀ p, p < 16 → u 10 p = -5) ∧ (∀ i, i < 256 → u 8 i = nI 0)) → tz_Z IX0 E 69 [some (.ref (tz_h E 0)), o1, none, none] [] u := by
        intro o1 u hu
        have l1 : u 3 1 = nI (P.2.2.2.1 1) := by rw [hu.1 3 (by decide)]; exact hP.2.2.2.1 1
        have h4 : u 4 1 = nI (P.2.2.2.2 1) := by rw [hu.1 4 (by decide)]; exact hP.2.2.2.2 1
        refine tz_iconst (v := nI 0) C dX0_prepare_69 (by decide) ?_
        refine tz_istore_1 C dX0_prepare_70 ?_
        refine tz_aload_0 C dX0_prepare_71 ?_
        refine tz_getA okX0 C 3 dX0_prepare_72 rfl q41 ?_
        refine tz_iconst (v := nI 1) C dX0_prepare_75 (by decide) ?_
        refine tz_iald okX0 C dX0_prepare_76 rfl ?_
        refine tz_top (l1) ?_
        refine tz_istore_2 C dX0_prepare_77 ?_
        have loop : ∀ y, y ≤ P.2.2.2.2 1 + 1 → P.2.2.2.1 1 ≤ y → ∀ row : Int32, (∀ y', tp_bt row y' = true ↔ P.2.2.2.1 1 ≤ y' ∧ y' < y) → tz_Z IX0 E 78 [some (.ref (tz_h E 0)), some (.int row), some (.int (nI y)), none] [] u := by
          refine tz_upto (P.2.2.2.2 1 + 1) (fun y hy ih => ?_)
          intro hly row hrow
          refine tz_iload_2 C dX0_prepare_78 ?_
          refine tz_aload_0 C dX0_prepare_79 ?_
          refine tz_getA okX0 C 4 dX0_prepare_80 rfl q42 ?_
          refine tz_iconst (v := nI 1) C dX0_prepare_83 (by decide) ?_
          refine tz_iald okX0 C dX0_prepare_84 rfl ?_
          refine tz_top (h4) ?_
          refine tz_icmp_gt_n (tgt := 100) C dX0_prepare_85 (by decide) (fun c85 => ?_) (fun c85 => ?_)
          · refine t100 row _ u hu (fun y' => (hrow y').trans ⟨fun q => ⟨q.1, by omega⟩, fun q => ⟨q.1, by omega⟩⟩)
          · skip
            refine tz_iload_1 C dX0_prepare_88 ?_
            refine tz_iconst (v := nI 1) C dX0_prepare_89 (by decide) ?_
            refine tz_iload_2 C dX0_prepare_90 ?_
            refine tz_ishl C dX0_prepare_91 ?_
            refine tz_ior C dX0_prepare_92 ?_
            refine tz_istore_1 C dX0_prepare_93 ?_
            refine tz_iinc_2_n C dX0_prepare_94 ?_
            refine tz_goto (tgt := 78) C dX0_prepare_97 (by decide) ?_
            refine ih (by omega) (by omega) _ (fun y' => ?_)
            rw [tp_bt_or, tp_bt_shl1 (by omega), Bool.or_eq_true, hrow y', decide_eq_true_iff]
            omega
        exact loop _ (by omega) (Nat.le_refl _) (nI 0) (fun y' => by rw [tp_bt_n0]; exact ⟨fun q => (by cases q), fun q => absurd q.1 (by omega)⟩)
      have t47 : ∀ (o1 : Option Value) (u : tz_S), ((∀ k, k ≤ 4 → u k = a k) ∧ u 5 0 = nI 1 ∧ u 11 0 = nI 0 ∧ (∀ i, i < 256 → u 6 i = nI 0) ∧ (∀ i, i < 256 → u 8 i = nI 0)) → tz_Z IX0 E 47 [some (.ref (tz_h E 0)), o1, none, none] [] u := by
        intro o1 u hu
        refine tz_iconst (v := nI 0) C dX0_prepare_47 (by decide) ?_
        refine tz_istore_1 C dX0_prepare_48 ?_
        have loop : ∀ p, p ≤ 16 → ∀ u : tz_S, ((∀ k, k ≤ 4 → u k = a k) ∧ u 5 0 = nI 1 ∧ u 11 0 = nI 0 ∧ (∀ i, i < 256 → u 6 i = nI 0) ∧ (∀ i, i < 256 → u 8 i = nI 0) ∧ ∀ p', p' < p → u 10 p' = -5) → tz_Z IX0 E 49 [some (.ref (tz_h E 0)), some (.int (nI p)), none, none] [] u := by
          refine tz_upto 16 (fun p hp ih => ?_)
          intro u hu
          obtain ⟨u1, u2, u3, u4, u5, u6⟩ := hu
          refine tz_iload_1 C dX0_prepare_49 ?_
          refine tz_bipush (v := nI 16) C dX0_prepare_50 (by decide) ?_
          refine tz_icmp_ge_n (tgt := 69) C dX0_prepare_52 (by decide) (fun c52 => ?_) (fun c52 => ?_)
          · exact t69 _ u ⟨u1, u2, u3, u4, fun p' hp' => u6 p' (by omega), u5⟩
          · skip
            refine tz_aload_0 C dX0_prepare_55 ?_
            refine tz_getA okX0 C 10 dX0_prepare_56 rfl q48 ?_
            refine tz_iload_1 C dX0_prepare_59 ?_
            refine tz_bipush (v := -5) C dX0_prepare_60 (by decide) ?_
            refine tz_iast okX0 C dX0_prepare_62 rfl ?_
            refine tz_iinc_1_n C dX0_prepare_63 ?_
            refine tz_goto (tgt := 49) C dX0_prepare_66 (by decide) ?_
            refine ih c52 _ ⟨fun k hk => by rw [tz_sw_o _ _ _ (by omega)]; exact u1 k hk, by rw [tz_sw_o _ _ _ (by decide)]; exact u2, by rw [tz_sw_o _ _ _ (by decide)]; exact u3, fun i hi => by rw [tz_sw_o _ _ _ (by decide)]; exact u4 i hi, fun i hi => by rw [tz_sw_o _ _ _ (by decide)]; exact u5 i hi, fun p' hp' => ?_⟩
            rw [tz_sw_at]
            by_cases h : p' = p
            · rw [if_pos h]
            · rw [if_neg h]; exact u6 p' (by omega)
        exact loop 0 (by decide) u ⟨hu.1, hu.2.1, hu.2.2.1, hu.2.2.2.1, hu.2.2.2.2, fun p' hp' => absurd hp' (Nat.not_lt_zero _)⟩
      have loop : ∀ i, i ≤ 256 → ∀ u : tz_S, ((∀ k, k ≤ 4 → u k = a k) ∧ u 5 0 = nI 1 ∧ u 11 0 = nI 0 ∧ (∀ i', i' < i → u 6 i' = nI 0) ∧ (∀ i', i' < i → u 8 i' = nI 0)) → tz_Z IX0 E 20 [some (.ref (tz_h E 0)), some (.int (nI i)), none, none] [] u := by
        refine tz_upto 256 (fun i hi ih => ?_)
        intro u hu
        obtain ⟨u1, u2, u3, u4, u5⟩ := hu
        refine tz_iload_1 C dX0_prepare_20 ?_
        refine tz_sipush (v := nI 256) C dX0_prepare_21 (by decide) ?_
        refine tz_icmp_ge_n (tgt := 47) C dX0_prepare_24 (by decide) (fun c24 => ?_) (fun c24 => ?_)
        · exact t47 _ u ⟨u1, u2, u3, fun i' hi' => u4 i' (by omega), fun i' hi' => u5 i' (by omega)⟩
        · skip
          refine tz_aload_0 C dX0_prepare_27 ?_
          refine tz_getA okX0 C 6 dX0_prepare_28 rfl q44 ?_
          refine tz_iload_1 C dX0_prepare_31 ?_
          refine tz_iconst (v := nI 0) C dX0_prepare_32 (by decide) ?_
          refine tz_iast okX0 C dX0_prepare_33 rfl ?_
          refine tz_aload_0 C dX0_prepare_34 ?_
          refine tz_getA okX0 C 8 dX0_prepare_35 rfl q46 ?_
          refine tz_iload_1 C dX0_prepare_38 ?_
          refine tz_iconst (v := nI 0) C dX0_prepare_39 (by decide) ?_
          refine tz_iast okX0 C dX0_prepare_40 rfl ?_
          refine tz_iinc_1_n C dX0_prepare_41 ?_
          refine tz_goto (tgt := 20) C dX0_prepare_44 (by decide) ?_
          refine ih c24 _ ⟨fun k hk => by rw [tz_sw_o _ _ _ (by omega), tz_sw_o _ _ _ (by omega)]; exact u1 k hk, by rw [tz_sw_o _ _ _ (by decide), tz_sw_o _ _ _ (by decide)]; exact u2, by rw [tz_sw_o _ _ _ (by decide), tz_sw_o _ _ _ (by decide)]; exact u3, fun i' hi' => ?_, fun i' hi' => ?_⟩
          · rw [tz_sw_o _ _ _ (by decide), tz_sw_at]
            by_cases h : i' = i
            · rw [if_pos h]
            · rw [if_neg h]; exact u4 i' (by omega)
          · rw [tz_sw_at, tz_sw_o _ _ _ (by decide)]
            by_cases h : i' = i
            · rw [if_pos h]
            · rw [if_neg h]; exact u5 i' (by omega)
      exact loop 0 (by decide) _ ⟨fun k hk => by rw [tz_sw_o _ _ _ (by omega), tz_sw_o _ _ _ (by omega)], by rw [tz_sw_o _ _ _ (by decide), tz_sw_kj], by rw [tz_sw_kj], fun i' hi' => absurd hi' (Nat.not_lt_zero _), fun i' hi' => absurd hi' (Nat.not_lt_zero _)⟩
    · exact absurd nI_0 c4
end
section
/-! TrapProver: what the law calls -/
set_option maxRecDepth 100000
theorem tp_V0_h0 {P : tp_P} {a : tz_S} (h : tp_V0 P a) : a 0 0 = nI P.1 := h.1.1
theorem tp_not_lt {x y : Int32} (h : ¬ x < y) : y ≤ x := Int32.not_lt.mp h
theorem mX0_emit {P : tp_P} (okP : tp_okP P) (o c : Int32) (a : tz_S) (hV : tp_V0 P a) : tz_Mi IX0 yX0_emit cX0_emit 3 .int 0 [o, c] a (fun r u => ∃ P', tp_emit P o c r P' ∧ tp_V0 P' u) := by
  have okL := okP.1
  have h0 := tp_V0_h0 hV
  refine tz_enter (by decide) rfl (Nat.le_of_ble_eq_true rfl) (fun E C R => ?_)
  show tz_Z _ E 0 [some (.ref (tz_h E 0)), some (.int o), some (.int c)] [] _
  refine tz_iload_1 C dX0_emit_0 ?_
  refine tz_if_lt (tgt := 10) C dX0_emit_1 (by decide) (fun c1 => ?_) (fun c1 => ?_)
  · skip
    refine tz_iconst (v := -1) C dX0_emit_10 (by decide) ?_
    exact R _ _ _ _ dX0_emit_11 rfl (⟨P, Or.inl ⟨Or.inl c1, rfl, rfl⟩, hV⟩)
  · skip
    refine tz_iload_1 C dX0_emit_4 ?_
    refine tz_bipush (v := nI 14) C dX0_emit_5 (by decide) ?_
    refine tz_icmp_le (tgt := 12) C dX0_emit_7 (by decide) (fun c7 => ?_) (fun c7 => ?_)
    · obtain ⟨q, hq, rfl⟩ := nI_of2 (M := nI 14) (n := 14) rfl c1 c7
      refine tz_aload_0 C dX0_emit_12 ?_
      refine tz_getI okX0 C 0 dX0_emit_13 rfl (by decide) q38 ?_
      refine tz_top (h0) ?_
      refine tz_bipush (v := nI 16) C dX0_emit_16 (by decide) ?_
      refine tz_icmp_lt_n (tgt := 24) C dX0_emit_18 (by decide) (fun c18 => ?_) (fun c18 => ?_)
      · have e1 : ∀ v, tz_sw a 1 P.1 v 0 0 = nI P.1 := fun v => by rw [tz_sw_o _ _ _ (by decide)]; exact h0
        have e2 : ∀ v w, tz_sw (tz_sw a 1 P.1 v) 2 P.1 w 0 0 = nI P.1 := fun v w => by rw [tz_sw_o _ _ _ (by decide)]; exact e1 v
        refine tz_aload_0 C dX0_emit_24 ?_
        refine tz_getA okX0 C 1 dX0_emit_25 rfl q39 ?_
        refine tz_aload_0 C dX0_emit_28 ?_
        refine tz_getI okX0 C 0 dX0_emit_29 rfl (by decide) q38 ?_
        refine tz_top (h0) ?_
        refine tz_iload_1 C dX0_emit_32 ?_
        refine tz_iast okX0 C dX0_emit_33 rfl ?_
        refine tz_aload_0 C dX0_emit_34 ?_
        refine tz_getA okX0 C 2 dX0_emit_35 rfl q40 ?_
        refine tz_aload_0 C dX0_emit_38 ?_
        refine tz_getI okX0 C 0 dX0_emit_39 rfl (by decide) q38 ?_
        refine tz_top (e1 _) ?_
        refine tz_iload_2 C dX0_emit_42 ?_
        refine tz_iast okX0 C dX0_emit_43 rfl ?_
        refine tz_aload_0 C dX0_emit_44 ?_
        refine tz_dup C dX0_emit_45 rfl ?_
        refine tz_getI okX0 C 0 dX0_emit_46 rfl (by decide) q38 ?_
        refine tz_top (e2 _ _) ?_
        refine tz_iconst (v := nI 1) C dX0_emit_49 (by decide) ?_
        first | refine tz_iadd_n C dX0_emit_50 ?_ | refine tz_iadd C dX0_emit_50 ?_
        refine tz_putI okX0 C 0 dX0_emit_51 rfl (by decide) q38 (by first | rfl | decide) (by first | rfl | decide) ?_
        refine tz_aload_0 C dX0_emit_54 ?_
        refine tz_iconst (v := nI 0) C dX0_emit_55 (by decide) ?_
        refine tz_putI okX0 C 5 dX0_emit_56 rfl (by decide) q43 (by first | rfl | decide) (by first | rfl | decide) ?_
        refine tz_aload_0 C dX0_emit_59 ?_
        refine tz_getI okX0 C 0 dX0_emit_60 rfl (by decide) q38 ?_
        refine tz_top ((by rw [tz_sw_o _ _ _ (by decide), tz_sw_kj])) ?_
        refine tz_iconst (v := nI 1) C dX0_emit_63 (by decide) ?_
        refine tz_isub_n C dX0_emit_64 (by omega) ?_
        obtain ⟨⟨p0, p1, p2, p3, p4⟩, -⟩ := hV
        refine R _ _ _ _ dX0_emit_65 rfl ⟨_, Or.inr (Or.inr ⟨c18, q, hq, rfl, by rw [Nat.add_sub_cancel], rfl⟩), tp_V0_has ⟨?_, ?_, ?_, ?_, ?_⟩ ?_⟩
        · simp [tz_sw_ap]
        · intro p
          simp only [tz_sw_ap]
          by_cases h : p = P.1
          · simp [h]
          · simp [h]; exact p1 p
        · intro p
          simp only [tz_sw_ap]
          by_cases h : p = P.1
          · simp [h]
          · simp [h]; exact p2 p
        · intro p; simp [tz_sw_ap]; exact p3 p
        · intro p; simp [tz_sw_ap]; exact p4 p
        · simp [tz_sw_ap]
      · skip
        refine tz_bipush (v := -2) C dX0_emit_21 (by decide) ?_
        refine R _ _ _ _ dX0_emit_23 rfl ⟨P, Or.inr (Or.inl ⟨tp_emit_q hq, c18, rfl, rfl⟩), hV⟩
    · skip
      refine tz_iconst (v := -1) C dX0_emit_10 (by decide) ?_
      exact R _ _ _ _ dX0_emit_11 rfl (⟨P, Or.inl ⟨Or.inr (Int32.not_le.mp c7), rfl, rfl⟩, hV⟩)
theorem mX0_patch {P : tp_P} (okP : tp_okP P) (p c : Int32) (a : tz_S) (hV : tp_V0 P a) : tz_Mi IX0 yX0_patch cX0_patch 4 .int 1 [p, c] a (fun r u => ∃ P', tp_patch P p c r P' ∧ tp_V0 P' u) := by
  have okL := okP.1
  have h0 := tp_V0_h0 hV
  refine tz_enter (by decide) rfl (Nat.le_of_ble_eq_true rfl) (fun E C R => ?_)
  show tz_Z _ E 0 [some (.ref (tz_h E 0)), some (.int p), some (.int c), none] [] _
  refine tz_aload_0 C dX0_patch_0 ?_
  refine tz_iload_1 C dX0_patch_1 ?_
  refine tz_call1 okX0 C vX0_noInstruction (mX0_noInstruction p a) dX0_patch_2 (fun r u hu => ?_)
  obtain ⟨rfl, hr⟩ := hu
  have hr : r = tp_bz (tp_nw P.1 p) := by rw [hr, h0]; rfl
  subst hr
  refine tz_if_eq (tgt := 11) C dX0_patch_5 (by decide) (fun c5 => ?_) (fun c5 => ?_)
  · obtain ⟨q, hq, rfl⟩ := tp_nw_not (by omega) (tp_bz_0.mp c5)
    refine tz_aload_0 C dX0_patch_11 ?_
    refine tz_getA okX0 C 2 dX0_patch_12 rfl q40 ?_
    refine tz_iload_1 C dX0_patch_15 ?_
    refine tz_iald okX0 C dX0_patch_16 rfl ?_
    refine tz_istore_3 C dX0_patch_17 ?_
    refine tz_aload_0 C dX0_patch_18 ?_
    refine tz_getA okX0 C 2 dX0_patch_19 rfl q40 ?_
    refine tz_iload_1 C dX0_patch_22 ?_
    refine tz_iload_2 C dX0_patch_23 ?_
    refine tz_iast okX0 C dX0_patch_24 rfl ?_
    refine tz_aload_0 C dX0_patch_25 ?_
    refine tz_iconst (v := nI 0) C dX0_patch_26 (by decide) ?_
    refine tz_putI okX0 C 5 dX0_patch_27 rfl (by decide) q43 (by first | rfl | decide) (by first | rfl | decide) ?_
    refine tz_iload_3 C dX0_patch_30 ?_
    obtain ⟨⟨p0, p1, p2, p3, p4⟩, -⟩ := hV
    refine R _ _ _ _ dX0_patch_31 rfl ⟨_, Or.inr ⟨q, hq, rfl, p2 q, rfl⟩, tp_V0_has ⟨?_, ?_, ?_, ?_, ?_⟩ ?_⟩
    · simp [tz_sw_ap]; exact p0
    · intro p; simp [tz_sw_ap]; exact p1 p
    · intro p
      simp only [tz_sw_ap]
      by_cases h : p = q
      · simp [h]
      · simp [h]; exact p2 p
    · intro p; simp [tz_sw_ap]; exact p3 p
    · intro p; simp [tz_sw_ap]; exact p4 p
    · simp [tz_sw_ap]
  · have nw : tp_nw P.1 p := Classical.byContradiction fun q => c5 (tp_bz_0.mpr q)
    refine tz_bipush (v := -3) C dX0_patch_8 (by decide) ?_
    exact R _ _ _ _ dX0_patch_10 rfl (⟨P, Or.inl ⟨nw, rfl, rfl⟩, hV⟩)
theorem mX0_begin {P : tp_P} (okP : tp_okP P) (g l h : Int32) (a : tz_S) (hV : tp_V0 P a) : tz_Mi IX0 yX0_begin cX0_begin 4 .int 0 [g, l, h] a (fun r u => ∃ P', tp_begin P g l h r P' ∧ tp_V0 P' u) := by
  refine tz_enter (by decide) rfl (Nat.le_of_ble_eq_true rfl) (fun E C R => ?_)
  show tz_Z _ E 0 [some (.ref (tz_h E 0)), some (.int g), some (.int l), some (.int h)] [] _
  have bad : (g < 0 ∨ nI 1 < g ∨ l < 0 ∨ h < l ∨ nI 15 < h) → tz_Z IX0 E 24 [some (.ref (tz_h E 0)), some (.int g), some (.int l), some (.int h)] [] a := by
    intro hb
    refine tz_bipush (v := -4) C dX0_begin_24 (by decide) ?_
    exact R _ _ _ _ dX0_begin_26 rfl (⟨P, Or.inl ⟨hb, rfl, rfl⟩, hV⟩)
  refine tz_iload_1 C dX0_begin_0 ?_
  refine tz_if_lt (tgt := 24) C dX0_begin_1 (by decide) (fun c1 => ?_) (fun c1 => ?_)
  · exact bad (Or.inl c1)
  · skip
    refine tz_iload_1 C dX0_begin_4 ?_
    refine tz_iconst (v := nI 1) C dX0_begin_5 (by decide) ?_
    refine tz_icmp_gt (tgt := 24) C dX0_begin_6 (by decide) (fun c6 => ?_) (fun c6 => ?_)
    · exact bad (Or.inr (Or.inl c6))
    · skip
      refine tz_iload_2 C dX0_begin_9 ?_
      refine tz_if_lt (tgt := 24) C dX0_begin_10 (by decide) (fun c10 => ?_) (fun c10 => ?_)
      · exact bad (Or.inr (Or.inr (Or.inl c10)))
      · skip
        refine tz_iload_2 C dX0_begin_13 ?_
        refine tz_iload_3 C dX0_begin_14 ?_
        refine tz_icmp_gt (tgt := 24) C dX0_begin_15 (by decide) (fun c15 => ?_) (fun c15 => ?_)
        · exact bad (Or.inr (Or.inr (Or.inr (Or.inl c15))))
        · skip
          refine tz_iload_3 C dX0_begin_18 ?_
          refine tz_bipush (v := nI 15) C dX0_begin_19 (by decide) ?_
          refine tz_icmp_le (tgt := 27) C dX0_begin_21 (by decide) (fun c21 => ?_) (fun c21 => ?_)
          · obtain ⟨i, hi, rfl⟩ := nI_of2 (M := nI 1) (n := 1) rfl c1 (tp_not_lt c6)
            obtain ⟨x, hx, rfl⟩ := nI_of2 (M := nI 15) (n := 15) rfl c10 (Int32.le_trans (tp_not_lt c15) c21)
            obtain ⟨y, hy, rfl⟩ := nI_of2 (M := nI 15) (n := 15) rfl (fun q => c15 (Int32.lt_of_lt_of_le q (nI_pos' (by omega)))) c21
            have hxy : x ≤ y := (nI_leI (by omega) (by omega)).mp (tp_not_lt c15)
            refine tz_aload_0 C dX0_begin_27 ?_
            refine tz_getA okX0 C 3 dX0_begin_28 rfl q41 ?_
            refine tz_iload_1 C dX0_begin_31 ?_
            refine tz_iload_2 C dX0_begin_32 ?_
            refine tz_iast okX0 C dX0_begin_33 rfl ?_
            refine tz_aload_0 C dX0_begin_34 ?_
            refine tz_getA okX0 C 4 dX0_begin_35 rfl q42 ?_
            refine tz_iload_1 C dX0_begin_38 ?_
            refine tz_iload_3 C dX0_begin_39 ?_
            refine tz_iast okX0 C dX0_begin_40 rfl ?_
            refine tz_aload_0 C dX0_begin_41 ?_
            refine tz_iconst (v := nI 0) C dX0_begin_42 (by decide) ?_
            refine tz_putI okX0 C 5 dX0_begin_43 rfl (by decide) q43 (by first | rfl | decide) (by first | rfl | decide) ?_
            refine tz_iconst (v := nI 0) C dX0_begin_46 (by decide) ?_
            obtain ⟨⟨p0, p1, p2, p3, p4⟩, -⟩ := hV
            refine R _ _ _ _ dX0_begin_47 rfl ⟨_, Or.inr ⟨i, x, y, by omega, hxy, hy, rfl, rfl, rfl, rfl, rfl⟩, tp_V0_has ⟨?_, ?_, ?_, ?_, ?_⟩ ?_⟩
            · simp [tz_sw_ap]; exact p0
            · intro p; simp [tz_sw_ap]; exact p1 p
            · intro p; simp [tz_sw_ap]; exact p2 p
            · intro p
              simp only [tz_sw_ap]
              by_cases h : p = i
              · simp [h]
              · simp [h]; exact p3 p
            · intro p
              simp only [tz_sw_ap]
              by_cases h : p = i
              · simp [h]
              · simp [h]; exact p4 p
            · simp [tz_sw_ap]
          · exact bad (Or.inr (Or.inr (Or.inr (Or.inr (Int32.not_le.mp c21)))))
theorem mX0_clear {P : tp_P} (a : tz_S) (hV : tp_V0 P a) : tz_Mv IX0 yX0_clear cX0_clear 1 0 [] a (tp_V0 (tp_clear P)) := by
  refine tz_enterv (by decide) rfl (Nat.le_of_ble_eq_true rfl) (fun E C R => ?_)
  show tz_Z _ E 0 [some (.ref (tz_h E 0))] [] _
  refine tz_aload_0 C dX0_clear_0 ?_
  refine tz_iconst (v := nI 0) C dX0_clear_1 (by decide) ?_
  refine tz_putI okX0 C 0 dX0_clear_2 rfl (by decide) q38 (by first | rfl | decide) (by first | rfl | decide) ?_
  refine tz_aload_0 C dX0_clear_5 ?_
  refine tz_iconst (v := nI 0) C dX0_clear_6 (by decide) ?_
  refine tz_putI okX0 C 5 dX0_clear_7 rfl (by decide) q43 (by first | rfl | decide) (by first | rfl | decide) ?_
  obtain ⟨⟨p0, p1, p2, p3, p4⟩, -⟩ := hV
  refine R _ _ _ dX0_clear_10 (tp_V0_has ⟨?_, ?_, ?_, ?_, ?_⟩ ?_)
  · simp [tz_sw_ap, tp_clear]
  · intro p; simp [tz_sw_ap, tp_clear]; exact p1 p
  · intro p; simp [tz_sw_ap, tp_clear]; exact p2 p
  · intro p; simp [tz_sw_ap, tp_clear]; exact p3 p
  · intro p; simp [tz_sw_ap, tp_clear]; exact p4 p
  · simp [tz_sw_ap]
theorem mX0_states {P : tp_P} (okP : tp_okP P) (p : Int32) (a : tz_S) (hV : tp_V0 P a) : tz_Mi IX0 yX0_states cX0_states 4 .int 8 [p] a (fun r u => tp_aStates P p r ∧ tp_V0 P u) := by
  have okL := okP.1
  have h0 := tp_V0_h0 hV
  refine tz_enter (by decide) rfl (Nat.le_of_ble_eq_true rfl) (fun E C R => ?_)
  show tz_Z _ E 0 [some (.ref (tz_h E 0)), some (.int p), none, none] [] _
  refine tz_aload_0 C dX0_states_0 ?_
  refine tz_iload_1 C dX0_states_1 ?_
  refine tz_call1 okX0 C vX0_noInstruction (mX0_noInstruction p a) dX0_states_2 (fun r u hu => ?_)
  obtain ⟨rfl, hr⟩ := hu
  have hr : r = tp_bz (tp_nw P.1 p) := by rw [hr, h0]; rfl
  subst hr
  refine tz_if_eq (tgt := 11) C dX0_states_5 (by decide) (fun c5 => ?_) (fun c5 => ?_)
  · obtain ⟨q, hq, rfl⟩ := tp_nw_not (by omega) (tp_bz_0.mp c5)
    refine tz_aload_0 C dX0_states_11 ?_
    refine tz_callv0 okX0 C vX0_prepare (mX0_prepare okP u hV) dX0_states_12 (fun w hw => ?_)
    refine tz_iconst (v := nI 0) C dX0_states_15 (by decide) ?_
    refine tz_istore_2 C dX0_states_16 ?_
    refine tz_iconst (v := nI 0) C dX0_states_17 (by decide) ?_
    refine tz_istore_3 C dX0_states_18 ?_
    have loop : ∀ x, x ≤ 16 → tz_Z IX0 E 19 [some (.ref (tz_h E 0)), some (.int (nI q)), some (.int (nI (tp_sm (fun x => tp_cn (tp_bt (w 6 (q * 16 + x))) 16) x))), some (.int (nI x))] [] w := by
      refine tz_upto 16 (fun x hx ih => ?_)
      refine tz_iload_3 C dX0_states_19 ?_
      refine tz_bipush (v := nI 16) C dX0_states_20 (by decide) ?_
      refine tz_icmp_ge_n (tgt := 48) C dX0_states_22 (by decide) (fun c22 => ?_) (fun c22 => ?_)
      · have hx16 : x = 16 := by omega
        subst hx16
        refine tz_iload_2 C dX0_states_48 ?_
        exact R _ _ _ _ dX0_states_49 rfl (⟨Or.inr ⟨q, hq, rfl, w 6, w 9, w 10, w 11 0, hw.2.2, rfl⟩, tp_R0_V0 hw⟩)
      · skip
        refine tz_iload_2 C dX0_states_25 ?_
        refine tz_aload_0 C dX0_states_26 ?_
        refine tz_getA okX0 C 6 dX0_states_27 rfl q44 ?_
        refine tz_iload_1 C dX0_states_30 ?_
        refine tz_bipush (v := nI 16) C dX0_states_31 (by decide) ?_
        first | refine tz_imul_n C dX0_states_33 ?_ | refine tz_imul C dX0_states_33 ?_
        refine tz_iload_3 C dX0_states_34 ?_
        first | refine tz_iadd_n C dX0_states_35 ?_ | refine tz_iadd C dX0_states_35 ?_
        refine tz_iald okX0 C dX0_states_36 rfl ?_
        refine tz_calls1 C vX0_ones (mX0_ones _) dX0_states_37 (fun s hs => ?_)
        subst hs
        first | refine tz_iadd_n C dX0_states_40 ?_ | refine tz_iadd C dX0_states_40 ?_
        refine tz_istore_2 C dX0_states_41 ?_
        refine tz_iinc_3_n C dX0_states_42 ?_
        refine tz_goto (tgt := 19) C dX0_states_45 (by decide) ?_
        exact ih c22
    exact loop 0 (by decide)
  · have nw : tp_nw P.1 p := Classical.byContradiction fun q => c5 (tp_bz_0.mpr q)
    refine tz_bipush (v := -3) C dX0_states_8 (by decide) ?_
    exact R _ _ _ _ dX0_states_10 rfl (⟨Or.inl ⟨nw, rfl⟩, hV⟩)
theorem mX0_possible {P : tp_P} (okP : tp_okP P) (p x y : Int32) (a : tz_S) (hV : tp_V0 P a) : tz_Mi IX0 yX0_possible cX0_possible 4 .boolean 8 [p, x, y] a (fun r u => tp_aPossible P p x y r ∧ tp_V0 P u) := by
  have okL := okP.1
  have h0 := tp_V0_h0 hV
  refine tz_enter (by decide) rfl (Nat.le_of_ble_eq_true rfl) (fun E C R => ?_)
  show tz_Z _ E 0 [some (.ref (tz_h E 0)), some (.int p), some (.int x), some (.int y)] [] _
  have bad : (tp_nw P.1 p ∨ x < 0 ∨ nI 15 < x ∨ y < 0 ∨ nI 15 < y) → tz_Z IX0 E 28 [some (.ref (tz_h E 0)), some (.int p), some (.int x), some (.int y)] [] a := by
    intro hb
    refine tz_iconst (v := nI 0) C dX0_possible_28 (by decide) ?_
    exact R _ _ _ _ dX0_possible_29 (by first | rfl | decide | exact tp_bz_nar _) (⟨Or.inl ⟨hb, rfl⟩, hV⟩)
  refine tz_aload_0 C dX0_possible_0 ?_
  refine tz_iload_1 C dX0_possible_1 ?_
  refine tz_call1 okX0 C vX0_noInstruction (mX0_noInstruction p a) dX0_possible_2 (fun r u hu => ?_)
  obtain ⟨rfl, hr⟩ := hu
  have hr : r = tp_bz (tp_nw P.1 p) := by rw [hr, h0]; rfl
  subst hr
  refine tz_if_ne (tgt := 28) C dX0_possible_5 (by decide) (fun c5 => ?_) (fun c5 => ?_)
  · exact bad (Or.inl (Classical.byContradiction fun q => c5 (tp_bz_0.mpr q)))
  · skip
    refine tz_iload_2 C dX0_possible_8 ?_
    refine tz_if_lt (tgt := 28) C dX0_possible_9 (by decide) (fun c9 => ?_) (fun c9 => ?_)
    · exact bad (Or.inr (Or.inl c9))
    · skip
      refine tz_iload_2 C dX0_possible_12 ?_
      refine tz_bipush (v := nI 15) C dX0_possible_13 (by decide) ?_
      refine tz_icmp_gt (tgt := 28) C dX0_possible_15 (by decide) (fun c15 => ?_) (fun c15 => ?_)
      · exact bad (Or.inr (Or.inr (Or.inl c15)))
      · skip
        refine tz_iload_3 C dX0_possible_18 ?_
        refine tz_if_lt (tgt := 28) C dX0_possible_19 (by decide) (fun c19 => ?_) (fun c19 => ?_)
        · exact bad (Or.inr (Or.inr (Or.inr (Or.inl c19))))
        · skip
          refine tz_iload_3 C dX0_possible_22 ?_
          refine tz_bipush (v := nI 15) C dX0_possible_23 (by decide) ?_
          refine tz_icmp_le (tgt := 30) C dX0_possible_25 (by decide) (fun c25 => ?_) (fun c25 => ?_)
          · obtain ⟨q, hq, rfl⟩ := tp_nw_not (by omega) (tp_bz_0.mp c5)
            obtain ⟨i, hi, rfl⟩ := nI_of2 (M := nI 15) (n := 15) rfl c9 (tp_not_lt c15)
            obtain ⟨j, hj, rfl⟩ := nI_of2 (M := nI 15) (n := 15) rfl c19 c25
            refine tz_aload_0 C dX0_possible_30 ?_
            refine tz_callv0 okX0 C vX0_prepare (mX0_prepare okP u hV) dX0_possible_31 (fun w hw => ?_)
            have fin : ∀ r, r = tp_bz (tp_bt (w 6 (q * 16 + i)) j = true) → tp_aPossible P (nI q) (nI i) (nI j) r := fun r hr => Or.inr ⟨q, i, j, hq, by omega, by omega, rfl, rfl, rfl, w 6, w 9, w 10, w 11 0, hw.2.2, hr⟩
            refine tz_aload_0 C dX0_possible_34 ?_
            refine tz_getA okX0 C 6 dX0_possible_35 rfl q44 ?_
            refine tz_iload_1 C dX0_possible_38 ?_
            refine tz_bipush (v := nI 16) C dX0_possible_39 (by decide) ?_
            first | refine tz_imul_n C dX0_possible_41 ?_ | refine tz_imul C dX0_possible_41 ?_
            refine tz_iload_2 C dX0_possible_42 ?_
            first | refine tz_iadd_n C dX0_possible_43 ?_ | refine tz_iadd C dX0_possible_43 ?_
            refine tz_iald okX0 C dX0_possible_44 rfl ?_
            refine tz_iload_3 C dX0_possible_45 ?_
            refine tz_ishr C dX0_possible_46 ?_
            refine tz_iconst (v := nI 1) C dX0_possible_47 (by decide) ?_
            refine tz_iand C dX0_possible_48 ?_
            refine tz_iconst (v := nI 1) C dX0_possible_49 (by decide) ?_
            refine tz_icmp_ne (tgt := 57) C dX0_possible_50 (by decide) (fun c50 => ?_) (fun c50 => ?_)
            · skip
              refine tz_iconst (v := nI 0) C dX0_possible_57 (by decide) ?_
              exact R _ _ _ _ dX0_possible_58 (by first | rfl | decide | exact tp_bz_nar _) (⟨fin _ (tp_bz_f (fun h => c50 (tp_shr_t (by omega) h))).symm, tp_R0_V0 hw⟩)
            · skip
              refine tz_iconst (v := nI 1) C dX0_possible_53 (by decide) ?_
              refine tz_goto (tgt := 58) C dX0_possible_54 (by decide) ?_
              exact R _ _ _ _ dX0_possible_58 (by first | rfl | decide | exact tp_bz_nar _) (⟨fin _ (tp_bz_t ((tp_shr_iff _ (by omega)).mp c50)).symm, tp_R0_V0 hw⟩)
          · exact bad (Or.inr (Or.inr (Or.inr (Or.inr (Int32.not_le.mp c25)))))
theorem mX0_values {P : tp_P} (okP : tp_okP P) (p g : Int32) (a : tz_S) (hV : tp_V0 P a) : tz_Mi IX0 yX0_values cX0_values 6 .int 8 [p, g] a (fun r u => tp_aValues P p g r ∧ tp_V0 P u) := by
  have okL := okP.1
  have h0 := tp_V0_h0 hV
  refine tz_enter (by decide) rfl (Nat.le_of_ble_eq_true rfl) (fun E C R => ?_)
  show tz_Z _ E 0 [some (.ref (tz_h E 0)), some (.int p), some (.int g), none, none, none] [] _
  refine tz_aload_0 C dX0_values_0 ?_
  refine tz_iload_1 C dX0_values_1 ?_
  refine tz_call1 okX0 C vX0_noInstruction (mX0_noInstruction p a) dX0_values_2 (fun r u hu => ?_)
  obtain ⟨rfl, hr⟩ := hu
  have hr : r = tp_bz (tp_nw P.1 p) := by rw [hr, h0]; rfl
  subst hr
  refine tz_if_eq (tgt := 11) C dX0_values_5 (by decide) (fun c5 => ?_) (fun c5 => ?_)
  · have nw := tp_bz_0.mp c5
    have bad : (g < 0 ∨ nI 1 < g) → tz_Z IX0 E 20 [some (.ref (tz_h E 0)), some (.int p), some (.int g), none, none, none] [] u := by
      intro hb
      refine tz_bipush (v := -4) C dX0_values_20 (by decide) ?_
      exact R _ _ _ _ dX0_values_22 rfl (⟨Or.inr (Or.inl ⟨nw, hb, rfl⟩), hV⟩)
    refine tz_iload_2 C dX0_values_11 ?_
    refine tz_if_lt (tgt := 20) C dX0_values_12 (by decide) (fun c12 => ?_) (fun c12 => ?_)
    · exact bad (Or.inl c12)
    · skip
      refine tz_iload_2 C dX0_values_15 ?_
      refine tz_iconst (v := nI 1) C dX0_values_16 (by decide) ?_
      refine tz_icmp_le (tgt := 23) C dX0_values_17 (by decide) (fun c17 => ?_) (fun c17 => ?_)
      · obtain ⟨q, hq, rfl⟩ := tp_nw_not (by omega) nw
        obtain ⟨i, hi, rfl⟩ := nI_of2 (M := nI 1) (n := 1) rfl c12 c17
        refine tz_aload_0 C dX0_values_23 ?_
        refine tz_callv0 okX0 C vX0_prepare (mX0_prepare okP u hV) dX0_values_24 (fun w hw => ?_)
        refine tz_iconst (v := nI 0) C dX0_values_27 (by decide) ?_
        refine tz_istore_3 C dX0_values_28 ?_
        refine tz_iconst (v := nI 0) C dX0_values_29 (by decide) ?_
        refine tz_istore_4 C dX0_values_30 ?_
        obtain rfl | rfl : i = 0 ∨ i = 1 := by omega
        · have loop : ∀ x, x ≤ 16 → ∀ o5 : Option Value, tz_Z IX0 E 32 [some (.ref (tz_h E 0)), some (.int (nI q)), some (.int (nI 0)), some (.int (tp_xs (fun x => w 6 (q * 16 + x)) x)), some (.int (nI x)), o5] [] w := by
            refine tz_upto 16 (fun x hx ih => ?_)
            intro o5
            refine tz_iload_4 C dX0_values_32 ?_
            refine tz_bipush (v := nI 16) C dX0_values_34 (by decide) ?_
            refine tz_icmp_ge_n (tgt := 84) C dX0_values_36 (by decide) (fun c36 => ?_) (fun c36 => ?_)
            · have hx16 : x = 16 := by omega
              subst hx16
              refine tz_iload_3 C dX0_values_84 ?_
              exact R _ _ _ _ dX0_values_85 rfl (⟨Or.inr (Or.inr ⟨q, hq, rfl, Or.inr ⟨rfl, w 6, w 9, w 10, w 11 0, hw.2.2, rfl⟩⟩), tp_R0_V0 hw⟩)
            · skip
              refine tz_aload_0 C dX0_values_39 ?_
              refine tz_getA okX0 C 6 dX0_values_40 rfl q44 ?_
              refine tz_iload_1 C dX0_values_43 ?_
              refine tz_bipush (v := nI 16) C dX0_values_44 (by decide) ?_
              first | refine tz_imul_n C dX0_values_46 ?_ | refine tz_imul C dX0_values_46 ?_
              refine tz_iload_4 C dX0_values_47 ?_
              first | refine tz_iadd_n C dX0_values_49 ?_ | refine tz_iadd C dX0_values_49 ?_
              refine tz_iald okX0 C dX0_values_50 rfl ?_
              refine tz_istore_5 C dX0_values_51 ?_
              refine tz_iload_2 C dX0_values_53 ?_
              refine tz_iconst (v := nI 1) C dX0_values_54 (by decide) ?_
              refine tz_icmp_ne_n (tgt := 66) C dX0_values_55 (by decide) (fun c55 => ?_) (fun c55 => ?_)
              · skip
                refine tz_iload_5 C dX0_values_66 ?_
                refine tz_if_eq (tgt := 78) C dX0_values_68 (by decide) (fun c68 => ?_) (fun c68 => ?_)
                · skip
                  refine tz_iinc_4_n C dX0_values_78 ?_
                  refine tz_goto (tgt := 32) C dX0_values_81 (by decide) ?_
                  have := ih c36 (some (.int (w 6 (q * 16 + x))))
                  rw [tp_xs_z (f := fun x => w 6 (q * 16 + x)) (n := x) c68] at this
                  exact this
                · skip
                  refine tz_iload_3 C dX0_values_71 ?_
                  refine tz_iconst (v := nI 1) C dX0_values_72 (by decide) ?_
                  refine tz_iload_4 C dX0_values_73 ?_
                  refine tz_ishl C dX0_values_75 ?_
                  refine tz_ior C dX0_values_76 ?_
                  refine tz_istore_3 C dX0_values_77 ?_
                  refine tz_iinc_4_n C dX0_values_78 ?_
                  refine tz_goto (tgt := 32) C dX0_values_81 (by decide) ?_
                  have := ih c36 (some (.int (w 6 (q * 16 + x))))
                  rw [tp_xs_n (f := fun x => w 6 (q * 16 + x)) (n := x) c68] at this
                  exact this
              · exact absurd c55 (by decide)
          exact loop 0 (by decide) none
        · have loop : ∀ x, x ≤ 16 → ∀ o5 : Option Value, tz_Z IX0 E 32 [some (.ref (tz_h E 0)), some (.int (nI q)), some (.int (nI 1)), some (.int (tp_or (fun x => w 6 (q * 16 + x)) x)), some (.int (nI x)), o5] [] w := by
            refine tz_upto 16 (fun x hx ih => ?_)
            intro o5
            refine tz_iload_4 C dX0_values_32 ?_
            refine tz_bipush (v := nI 16) C dX0_values_34 (by decide) ?_
            refine tz_icmp_ge_n (tgt := 84) C dX0_values_36 (by decide) (fun c36 => ?_) (fun c36 => ?_)
            · have hx16 : x = 16 := by omega
              subst hx16
              refine tz_iload_3 C dX0_values_84 ?_
              exact R _ _ _ _ dX0_values_85 rfl (⟨Or.inr (Or.inr ⟨q, hq, rfl, Or.inl ⟨rfl, w 6, w 9, w 10, w 11 0, hw.2.2, rfl⟩⟩), tp_R0_V0 hw⟩)
            · skip
              refine tz_aload_0 C dX0_values_39 ?_
              refine tz_getA okX0 C 6 dX0_values_40 rfl q44 ?_
              refine tz_iload_1 C dX0_values_43 ?_
              refine tz_bipush (v := nI 16) C dX0_values_44 (by decide) ?_
              first | refine tz_imul_n C dX0_values_46 ?_ | refine tz_imul C dX0_values_46 ?_
              refine tz_iload_4 C dX0_values_47 ?_
              first | refine tz_iadd_n C dX0_values_49 ?_ | refine tz_iadd C dX0_values_49 ?_
              refine tz_iald okX0 C dX0_values_50 rfl ?_
              refine tz_istore_5 C dX0_values_51 ?_
              refine tz_iload_2 C dX0_values_53 ?_
              refine tz_iconst (v := nI 1) C dX0_values_54 (by decide) ?_
              refine tz_icmp_ne_n (tgt := 66) C dX0_values_55 (by decide) (fun c55 => ?_) (fun c55 => ?_)
              · exact absurd rfl c55
              · skip
                refine tz_iload_3 C dX0_values_58 ?_
                refine tz_iload_5 C dX0_values_59 ?_
                refine tz_ior C dX0_values_61 ?_
                refine tz_istore_3 C dX0_values_62 ?_
                refine tz_goto (tgt := 78) C dX0_values_63 (by decide) ?_
                refine tz_iinc_4_n C dX0_values_78 ?_
                refine tz_goto (tgt := 32) C dX0_values_81 (by decide) ?_
                exact ih c36 _
          exact loop 0 (by decide) none
      · exact bad (Or.inr (Int32.not_le.mp c17))
  · have nw : tp_nw P.1 p := Classical.byContradiction fun q => c5 (tp_bz_0.mpr q)
    refine tz_bipush (v := -3) C dX0_values_8 (by decide) ?_
    exact R _ _ _ _ dX0_values_10 rfl (⟨Or.inl ⟨nw, rfl⟩, hV⟩)
theorem mX0_trapsAt {P : tp_P} (okP : tp_okP P) {q : Nat} (hq : q < P.1) (a : tz_S) (hR : tp_R0 P a) : tz_Mi IX0 yX0_trapsAt cX0_trapsAt 4 .int 4 [nI q] a (fun r u => (∀ k, k ≤ 11 → u k = a k) ∧ r = nI (tp_cT P (a 6) q)) := by
  have okL := okP.1
  obtain ⟨hP, -, hD⟩ := hR
  have hwf : ∀ i, i < 256 → tp_wf (a 6 i) := fun i hi y h => by
    obtain ⟨k, hk⟩ := (hD.1 i hi y).mp h
    exact (tp_H_in okP hk).2.2
  refine tz_enter (by decide) rfl (Nat.le_of_ble_eq_true rfl) (fun E C R => ?_)
  show tz_Z _ E 0 [some (.ref (tz_h E 0)), some (.int (nI q)), none, none] [] _
  refine tz_iconst (v := nI 0) C dX0_trapsAt_0 (by decide) ?_
  refine tz_istore_2 C dX0_trapsAt_1 ?_
  have body : ∀ u : tz_S, ((∀ k, k ≠ 12 → u k = a k) ∧ ∀ x, x < 16 → u 12 x = a 6 (q * 16 + x)) → tz_Z IX0 E 31 [some (.ref (tz_h E 0)), some (.int (nI q)), some (.int (nI 16)), none] [] u := by
    intro u hu
    obtain ⟨u1, u2⟩ := hu
    have w1 : u 1 q = nI (P.2.1 q) := by rw [u1 1 (by decide)]; exact hP.2.1 q
    have w2 : u 2 q = P.2.2.1 q := by rw [u1 2 (by decide)]; exact hP.2.2.1 q
    refine tz_aload_0 C dX0_trapsAt_31 ?_
    refine tz_iload_1 C dX0_trapsAt_32 ?_
    refine tz_callv1 okX0 C vX0_transfer (mX0_transfer (show q < 16 by omega) u w1 (okP.2.1 q) (fun x hx => by rw [u2 x hx]; exact hwf _ (by omega))) dX0_trapsAt_33 (fun w hw => ?_)
    rw [w2] at hw
    obtain ⟨t1, t2, t3, t4⟩ := hw
    have tb : ∀ x, x < 16 → tp_cn (tp_bt (w 15 x)) 16 = tp_cn (fun y => tp_bt (a 6 (q * 16 + x)) y && tp_trb (P.2.1 q) (P.2.2.1 q) x y) 16 := fun x hx => tp_cn_cg 16 (fun y hy => by
      have h1 := t4 x hx y
      rw [u2 x hx] at h1
      have h2 : tp_bt (w 15 x) y = true ↔ (tp_bt (a 6 (q * 16 + x)) y && tp_trb (P.2.1 q) (P.2.2.1 q) x y) = true := by
        rw [h1, Bool.and_eq_true, tp_trb_iff]
        exact ⟨fun z => z.2, fun z => ⟨hx, z⟩⟩
      exact Bool.eq_iff_iff.mpr h2)
    refine tz_iconst (v := nI 0) C dX0_trapsAt_36 (by decide) ?_
    refine tz_istore_2 C dX0_trapsAt_37 ?_
    refine tz_iconst (v := nI 0) C dX0_trapsAt_38 (by decide) ?_
    refine tz_istore_3 C dX0_trapsAt_39 ?_
    have loop : ∀ x, x ≤ 16 → tz_Z IX0 E 40 [some (.ref (tz_h E 0)), some (.int (nI q)), some (.int (nI (tp_sm (fun x => tp_cn (fun y => tp_bt (a 6 (q * 16 + x)) y && tp_trb (P.2.1 q) (P.2.2.1 q) x y) 16) x))), some (.int (nI x))] [] w := by
      refine tz_upto 16 (fun x hx ih => ?_)
      refine tz_iload_3 C dX0_trapsAt_40 ?_
      refine tz_bipush (v := nI 16) C dX0_trapsAt_41 (by decide) ?_
      refine tz_icmp_ge_n (tgt := 64) C dX0_trapsAt_43 (by decide) (fun c43 => ?_) (fun c43 => ?_)
      · have hx16 : x = 16 := by omega
        subst hx16
        refine tz_iload_2 C dX0_trapsAt_64 ?_
        exact R _ _ _ _ dX0_trapsAt_65 rfl (⟨fun k hk => (t1 k (by omega) (by omega) (by omega)).trans (u1 k (by omega)), rfl⟩)
      · skip
        refine tz_iload_2 C dX0_trapsAt_46 ?_
        refine tz_aload_0 C dX0_trapsAt_47 ?_
        refine tz_getA okX0 C 15 dX0_trapsAt_48 rfl q53 ?_
        refine tz_iload_3 C dX0_trapsAt_51 ?_
        refine tz_iald okX0 C dX0_trapsAt_52 rfl ?_
        refine tz_calls1 C vX0_ones (mX0_ones _) dX0_trapsAt_53 (fun s hs => ?_)
        rw [tb x c43] at hs
        subst hs
        first | refine tz_iadd_n C dX0_trapsAt_56 ?_ | refine tz_iadd C dX0_trapsAt_56 ?_
        refine tz_istore_2 C dX0_trapsAt_57 ?_
        refine tz_iinc_3_n C dX0_trapsAt_58 ?_
        refine tz_goto (tgt := 40) C dX0_trapsAt_61 (by decide) ?_
        exact ih c43
    exact loop 0 (by decide)
  have loop : ∀ x, x ≤ 16 → ∀ u : tz_S, ((∀ k, k ≠ 12 → u k = a k) ∧ ∀ x', x' < x → u 12 x' = a 6 (q * 16 + x')) → tz_Z IX0 E 2 [some (.ref (tz_h E 0)), some (.int (nI q)), some (.int (nI x)), none] [] u := by
    refine tz_upto 16 (fun x hx ih => ?_)
    intro u hu
    refine tz_iload_2 C dX0_trapsAt_2 ?_
    refine tz_bipush (v := nI 16) C dX0_trapsAt_3 (by decide) ?_
    refine tz_icmp_ge_n (tgt := 31) C dX0_trapsAt_5 (by decide) (fun c5 => ?_) (fun c5 => ?_)
    · have hx16 : x = 16 := by omega
      subst hx16
      exact body u hu
    · skip
      refine tz_aload_0 C dX0_trapsAt_8 ?_
      refine tz_getA okX0 C 12 dX0_trapsAt_9 rfl q50 ?_
      refine tz_iload_2 C dX0_trapsAt_12 ?_
      refine tz_aload_0 C dX0_trapsAt_13 ?_
      refine tz_getA okX0 C 6 dX0_trapsAt_14 rfl q44 ?_
      refine tz_iload_1 C dX0_trapsAt_17 ?_
      refine tz_bipush (v := nI 16) C dX0_trapsAt_18 (by decide) ?_
      first | refine tz_imul_n C dX0_trapsAt_20 ?_ | refine tz_imul C dX0_trapsAt_20 ?_
      refine tz_iload_2 C dX0_trapsAt_21 ?_
      first | refine tz_iadd_n C dX0_trapsAt_22 ?_ | refine tz_iadd C dX0_trapsAt_22 ?_
      refine tz_iald okX0 C dX0_trapsAt_23 rfl ?_
      refine tz_iast okX0 C dX0_trapsAt_24 rfl ?_
      refine tz_iinc_2_n C dX0_trapsAt_25 ?_
      refine tz_goto (tgt := 2) C dX0_trapsAt_28 (by decide) ?_
      refine ih c5 _ ⟨fun k hk => by rw [tz_sw_o _ _ _ hk]; exact hu.1 k hk, fun x' hx' => ?_⟩
      rw [tz_sw_at]
      by_cases h : x' = x
      · rw [if_pos h, h, hu.1 6 (by decide)]
      · rw [if_neg h]; exact hu.2 x' (by omega)
  exact loop 0 (by decide) a ⟨fun _ _ => rfl, fun x' hx' => absurd hx' (Nat.not_lt_zero _)⟩
theorem tp_R0_kept {P : tp_P} {a u : tz_S} (h : tp_R0 P a) (hu : ∀ k, k ≤ 11 → u k = a k) : tp_R0 P u := by
  refine ⟨tp_has_kept h.1 (fun k hk => hu k (by omega)), by rw [hu 5 (by decide)]; exact h.2.1, ?_⟩
  rw [hu 6 (by decide), hu 9 (by decide), hu 10 (by decide), hu 11 (by decide)]
  exact h.2.2
theorem mX0_traps {P : tp_P} (okP : tp_okP P) (p : Int32) (a : tz_S) (hV : tp_V0 P a) : tz_Mi IX0 yX0_traps cX0_traps 2 .int 8 [p] a (fun r u => tp_aTraps P p r ∧ tp_V0 P u) := by
  have okL := okP.1
  have h0 := tp_V0_h0 hV
  refine tz_enter (by decide) rfl (Nat.le_of_ble_eq_true rfl) (fun E C R => ?_)
  show tz_Z _ E 0 [some (.ref (tz_h E 0)), some (.int p)] [] _
  refine tz_aload_0 C dX0_traps_0 ?_
  refine tz_iload_1 C dX0_traps_1 ?_
  refine tz_call1 okX0 C vX0_noInstruction (mX0_noInstruction p a) dX0_traps_2 (fun r u hu => ?_)
  obtain ⟨rfl, hr⟩ := hu
  have hr : r = tp_bz (tp_nw P.1 p) := by rw [hr, h0]; rfl
  subst hr
  refine tz_if_eq (tgt := 11) C dX0_traps_5 (by decide) (fun c5 => ?_) (fun c5 => ?_)
  · obtain ⟨q, hq, rfl⟩ := tp_nw_not (by omega) (tp_bz_0.mp c5)
    refine tz_aload_0 C dX0_traps_11 ?_
    refine tz_callv0 okX0 C vX0_prepare (mX0_prepare okP u hV) dX0_traps_12 (fun w hw => ?_)
    refine tz_aload_0 C dX0_traps_15 ?_
    refine tz_iload_1 C dX0_traps_16 ?_
    refine tz_call1 okX0 C vX0_trapsAt (mX0_trapsAt okP hq w hw) dX0_traps_17 (fun r v hv => ?_)
    exact R _ _ _ _ dX0_traps_20 rfl (⟨Or.inr ⟨q, hq, rfl, w 6, w 9, w 10, w 11 0, hw.2.2, hv.2⟩, tp_R0_V0 (tp_R0_kept hw hv.1)⟩)
  · have nw : tp_nw P.1 p := Classical.byContradiction fun q => c5 (tp_bz_0.mpr q)
    refine tz_bipush (v := -3) C dX0_traps_8 (by decide) ?_
    exact R _ _ _ _ dX0_traps_10 rfl (⟨Or.inl ⟨nw, rfl⟩, hV⟩)
theorem mX0_safe {P : tp_P} (okP : tp_okP P) (a : tz_S) (hV : tp_V0 P a) : tz_Mi IX0 yX0_safe cX0_safe 3 .boolean 8 [] a (fun r u => tp_aSafe P r ∧ tp_V0 P u) := by
  have okL := okP.1
  refine tz_enter (by decide) rfl (Nat.le_of_ble_eq_true rfl) (fun E C R => ?_)
  show tz_Z _ E 0 [some (.ref (tz_h E 0)), none, none] [] _
  refine tz_aload_0 C dX0_safe_0 ?_
  refine tz_callv0 okX0 C vX0_prepare (mX0_prepare okP a hV) dX0_safe_1 (fun w hw => ?_)
  refine tz_iconst (v := nI 0) C dX0_safe_4 (by decide) ?_
  refine tz_istore_1 C dX0_safe_5 ?_
  have loop : ∀ q, q ≤ P.1 → ∀ (o2 : Option Value) (u : tz_S), (∀ k, k ≤ 11 → u k = w k) → (∀ q', q' < q → tp_cT P (w 6) q' = 0) → tz_Z IX0 E 6 [some (.ref (tz_h E 0)), some (.int (nI q)), o2] [] u := by
    refine tz_upto P.1 (fun q hq ih => ?_)
    intro o2 u hu hz
    have hRu := tp_R0_kept hw hu
    refine tz_iload_1 C dX0_safe_6 ?_
    refine tz_aload_0 C dX0_safe_7 ?_
    refine tz_getI okX0 C 0 dX0_safe_8 rfl (by decide) q38 ?_
    refine tz_top (hRu.1.1) ?_
    refine tz_icmp_ge_n (tgt := 32) C dX0_safe_11 (by decide) (fun c11 => ?_) (fun c11 => ?_)
    · skip
      refine tz_iconst (v := nI 1) C dX0_safe_32 (by decide) ?_
      exact R _ _ _ _ dX0_safe_33 (by first | rfl | decide | exact tp_bz_nar _) (⟨⟨w 6, w 9, w 10, w 11 0, hw.2.2, (tp_bz_t (fun q' hq' => hz q' (by omega))).symm⟩, tp_R0_V0 hRu⟩)
    · skip
      refine tz_aload_0 C dX0_safe_14 ?_
      refine tz_iload_1 C dX0_safe_15 ?_
      refine tz_call1 okX0 C vX0_trapsAt (mX0_trapsAt okP c11 u hRu) dX0_safe_16 (fun r v hv => ?_)
      obtain ⟨v1, hr⟩ := hv
      rw [hu 6 (by decide)] at hr
      subst hr
      have hle := tp_cT_le P (w 6) q
      refine tz_istore_2 C dX0_safe_19 ?_
      refine tz_iload_2 C dX0_safe_20 ?_
      refine tz_if_le (tgt := 26) C dX0_safe_21 (by decide) (fun c21 => ?_) (fun c21 => ?_)
      · have hc : tp_cT P (w 6) q = 0 := by
          rcases Nat.eq_zero_or_pos (tp_cT P (w 6) q) with z | z
          · exact z
          · exact absurd c21 (nI_nle z (by omega))
        refine tz_iinc_1_n C dX0_safe_26 ?_
        refine tz_goto (tgt := 6) C dX0_safe_29 (by decide) ?_
        refine ih c11 _ v (fun k hk => (v1 k hk).trans (hu k hk)) (fun q' hq' => ?_)
        rcases Nat.lt_or_ge q' q with z | z
        · exact hz q' z
        · rw [show q' = q by omega]; exact hc
      · skip
        refine tz_iconst (v := nI 0) C dX0_safe_24 (by decide) ?_
        refine R _ _ _ _ dX0_safe_25 (by decide) ⟨⟨w 6, w 9, w 10, w 11 0, hw.2.2, (tp_bz_f (fun z => ?_)).symm⟩, tp_R0_V0 (tp_R0_kept hRu v1)⟩
        rw [z q c11] at c21
        exact c21 (by decide)
  exact loop 0 (Nat.zero_le _) none w (fun _ _ => rfl) (fun q' hq' => absurd hq' (Nat.not_lt_zero _))
theorem mX0_soonest {P : tp_P} (okP : tp_okP P) (p : Int32) (a : tz_S) (hV : tp_V0 P a) : tz_Mi IX0 yX0_soonest cX0_soonest 2 .int 8 [p] a (fun r u => tp_aSoonest P p r ∧ tp_V0 P u) := by
  have okL := okP.1
  have h0 := tp_V0_h0 hV
  refine tz_enter (by decide) rfl (Nat.le_of_ble_eq_true rfl) (fun E C R => ?_)
  show tz_Z _ E 0 [some (.ref (tz_h E 0)), some (.int p)] [] _
  refine tz_aload_0 C dX0_soonest_0 ?_
  refine tz_iload_1 C dX0_soonest_1 ?_
  refine tz_call1 okX0 C vX0_noInstruction (mX0_noInstruction p a) dX0_soonest_2 (fun r u hu => ?_)
  obtain ⟨rfl, hr⟩ := hu
  have hr : r = tp_bz (tp_nw P.1 p) := by rw [hr, h0]; rfl
  subst hr
  refine tz_if_eq (tgt := 11) C dX0_soonest_5 (by decide) (fun c5 => ?_) (fun c5 => ?_)
  · obtain ⟨q, hq, rfl⟩ := tp_nw_not (by omega) (tp_bz_0.mp c5)
    refine tz_aload_0 C dX0_soonest_11 ?_
    refine tz_callv0 okX0 C vX0_prepare (mX0_prepare okP u hV) dX0_soonest_12 (fun w hw => ?_)
    refine tz_aload_0 C dX0_soonest_15 ?_
    refine tz_getA okX0 C 10 dX0_soonest_16 rfl q48 ?_
    refine tz_iload_1 C dX0_soonest_19 ?_
    refine tz_iald okX0 C dX0_soonest_20 rfl ?_
    exact R _ _ _ _ dX0_soonest_21 rfl (⟨Or.inr ⟨q, hq, rfl, w 6, w 9, w 10, w 11 0, hw.2.2, rfl⟩, tp_R0_V0 hw⟩)
  · have nw : tp_nw P.1 p := Classical.byContradiction fun q => c5 (tp_bz_0.mpr q)
    refine tz_bipush (v := -3) C dX0_soonest_8 (by decide) ?_
    exact R _ _ _ _ dX0_soonest_10 rfl (⟨Or.inl ⟨nw, rfl⟩, hV⟩)
theorem mX0_canEnd {P : tp_P} (okP : tp_okP P) (a : tz_S) (hV : tp_V0 P a) : tz_Mi IX0 yX0_canEnd cX0_canEnd 1 .boolean 8 [] a (fun r u => tp_aCanEnd P r ∧ tp_V0 P u) := by
  refine tz_enter (by decide) rfl (Nat.le_of_ble_eq_true rfl) (fun E C R => ?_)
  show tz_Z _ E 0 [some (.ref (tz_h E 0))] [] _
  refine tz_aload_0 C dX0_canEnd_0 ?_
  refine tz_callv0 okX0 C vX0_prepare (mX0_prepare okP a hV) dX0_canEnd_1 (fun w hw => ?_)
  refine tz_aload_0 C dX0_canEnd_4 ?_
  refine tz_getI okX0 C 11 dX0_canEnd_5 rfl (by decide) q49 ?_
  refine R _ _ _ _ dX0_canEnd_8 (by rw [hw.2.2.2.2.2]; exact tp_bz_nar _) ⟨⟨w 6, w 9, w 10, w 11 0, hw.2.2, rfl⟩, tp_R0_V0 hw⟩
theorem tp_sm_more {F : Nat → Nat} {m : Nat} : ∀ n, m ≤ n → (∀ i, m ≤ i → i < n → F i = 0) → tp_sm F n = tp_sm F m
  | 0, h, _ => by rw [show m = 0 by omega]
  | n + 1, h, h0 => by
    by_cases hm : m = n + 1
    · rw [hm]
    · show tp_sm F n + F n = tp_sm F m
      rw [tp_sm_more n (by omega) (fun i h1 h2 => h0 i h1 (by omega)), h0 n (by omega) (by omega)]; rfl
theorem tp_cn_none {f : Nat → Bool} : ∀ n, (∀ y, y < n → f y = false) → tp_cn f n = 0
  | 0, _ => rfl
  | n + 1, h => by
    show tp_cn f n + _ = 0
    rw [tp_cn_none n (fun y hy => h y (by omega)), h n (by omega)]; rfl
theorem mX0_endless {P : tp_P} (okP : tp_okP P) (a : tz_S) (hV : tp_V0 P a) : tz_Mi IX0 yX0_endless cX0_endless 3 .int 8 [] a (fun r u => ∃ hv al fs en, tp_Done P hv al fs en ∧ r = nI (tp_cE al) ∧ tp_V0 P u) := by
  have okL := okP.1
  refine tz_enter (by decide) rfl (Nat.le_of_ble_eq_true rfl) (fun E C R => ?_)
  show tz_Z _ E 0 [some (.ref (tz_h E 0)), none, none] [] _
  refine tz_aload_0 C dX0_endless_0 ?_
  refine tz_callv0 okX0 C vX0_prepare (mX0_prepare okP a hV) dX0_endless_1 (fun w hw => ?_)
  refine tz_iconst (v := nI 0) C dX0_endless_4 (by decide) ?_
  refine tz_istore_1 C dX0_endless_5 ?_
  refine tz_iconst (v := nI 0) C dX0_endless_6 (by decide) ?_
  refine tz_istore_2 C dX0_endless_7 ?_
  have loop : ∀ i, i ≤ P.1 * 16 → tz_Z IX0 E 8 [some (.ref (tz_h E 0)), some (.int (nI (tp_sm (fun i => tp_cn (tp_bt (w 9 i)) 16) i))), some (.int (nI i))] [] w := by
    refine tz_upto (P.1 * 16) (fun i hi ih => ?_)
    refine tz_iload_2 C dX0_endless_8 ?_
    refine tz_aload_0 C dX0_endless_9 ?_
    refine tz_getI okX0 C 0 dX0_endless_10 rfl (by decide) q38 ?_
    refine tz_top (hw.1.1) ?_
    refine tz_bipush (v := nI 16) C dX0_endless_13 (by decide) ?_
    first | refine tz_imul_n C dX0_endless_15 ?_ | refine tz_imul C dX0_endless_15 ?_
    refine tz_icmp_ge_n (tgt := 37) C dX0_endless_16 (by decide) (fun c16 => ?_) (fun c16 => ?_)
    · have hi1 : i = P.1 * 16 := by omega
      have he : tp_sm (fun i => tp_cn (tp_bt (w 9 i)) 16) i = tp_cE (w 9) := by
        refine (tp_sm_more 256 (by omega) (fun j h1 h2 => tp_cn_none 16 (fun y hy => ?_))).symm
        cases hb : tp_bt (w 9 j) y with
        | false => rfl
        | true =>
          obtain ⟨k, hk⟩ := (hw.2.2.1 j h2 y).mp (hw.2.2.2.1.1 j h2 y hb)
          have := (tp_H_in okP hk).1
          omega
      refine tz_iload_1 C dX0_endless_37 ?_
      exact R _ _ _ _ dX0_endless_38 rfl (⟨w 6, w 9, w 10, w 11 0, hw.2.2, by rw [he], tp_R0_V0 hw⟩)
    · skip
      refine tz_iload_1 C dX0_endless_19 ?_
      refine tz_aload_0 C dX0_endless_20 ?_
      refine tz_getA okX0 C 9 dX0_endless_21 rfl q47 ?_
      refine tz_iload_2 C dX0_endless_24 ?_
      refine tz_iald okX0 C dX0_endless_25 rfl ?_
      refine tz_calls1 C vX0_ones (mX0_ones _) dX0_endless_26 (fun s hs => ?_)
      subst hs
      first | refine tz_iadd_n C dX0_endless_29 ?_ | refine tz_iadd C dX0_endless_29 ?_
      refine tz_istore_1 C dX0_endless_30 ?_
      refine tz_iinc_2_n C dX0_endless_31 ?_
      refine tz_goto (tgt := 8) C dX0_endless_34 (by decide) ?_
      exact ih c16
  exact loop 0 (Nat.zero_le _)
theorem mX0_canRunForever {P : tp_P} (okP : tp_okP P) (a : tz_S) (hV : tp_V0 P a) : tz_Mi IX0 yX0_canRunForever cX0_canRunForever 2 .boolean 9 [] a (fun r u => tp_aForever P r ∧ tp_V0 P u) := by
  refine tz_enter (by decide) rfl (Nat.le_of_ble_eq_true rfl) (fun E C R => ?_)
  show tz_Z _ E 0 [some (.ref (tz_h E 0)), none] [] _
  refine tz_aload_0 C dX0_canRunForever_0 ?_
  refine tz_call0 okX0 C vX0_endless (mX0_endless okP a hV) dX0_canRunForever_1 (fun r u hu => ?_)
  obtain ⟨hv, al, fs, en, hD, hr, hVu⟩ := hu
  subst hr
  have hle := tp_cE_le al
  refine tz_istore_1 C dX0_canRunForever_4 ?_
  refine tz_iload_1 C dX0_canRunForever_5 ?_
  refine tz_if_le (tgt := 13) C dX0_canRunForever_6 (by decide) (fun c6 => ?_) (fun c6 => ?_)
  · have hc : tp_cE al = 0 := by
      rcases Nat.eq_zero_or_pos (tp_cE al) with z | z
      · exact z
      · exact absurd c6 (nI_nle z (by omega))
    refine tz_iconst (v := nI 0) C dX0_canRunForever_13 (by decide) ?_
    exact R _ _ _ _ dX0_canRunForever_14 (by first | rfl | decide | exact tp_bz_nar _) (⟨⟨hv, al, fs, en, hD, (tp_bz_f (by omega)).symm⟩, hVu⟩)
  · have hc : 0 < tp_cE al := by
      rcases Nat.eq_zero_or_pos (tp_cE al) with z | z
      · rw [z] at c6; exact absurd (by decide) c6
      · exact z
    refine tz_iconst (v := nI 1) C dX0_canRunForever_9 (by decide) ?_
    refine tz_goto (tgt := 14) C dX0_canRunForever_10 (by decide) ?_
    exact R _ _ _ _ dX0_canRunForever_14 (by first | rfl | decide | exact tp_bz_nar _) (⟨⟨hv, al, fs, en, hD, (tp_bz_t hc).symm⟩, hVu⟩)
end
section
/-! the model's way of a step: for one read value v -/
def tp_stv (P : tp_P) (i y v i' y' : Nat) : Prop := i / 16 < P.1 ∧ i' / 16 < P.1 ∧ P.2.1 (i / 16) ≠ 14 ∧ ¬ tp_tr (P.2.1 (i / 16)) (P.2.2.1 (i / 16)) (i % 16) y ∧ i' % 16 = tp_lo (tp_rx (P.2.1 (i / 16)) (P.2.2.1 (i / 16)) (i % 16) y) ∧ y' = tp_lo (tp_ry (P.2.1 (i / 16)) (P.2.2.1 (i / 16)) (i % 16) y v) ∧ (tp_tk (P.2.1 (i / 16)) (i % 16) y → P.2.2.1 (i / 16) = nI (i' / 16)) ∧ (¬ tp_tk (P.2.1 (i / 16)) (i % 16) y → i' / 16 = i / 16 + 1)
theorem tp_stv_iff {P : tp_P} {i y i' y' : Nat} : tp_stp P i y i' y' ↔ ∃ v, v < 16 ∧ (v = 0 ∨ P.2.1 (i / 16) = 9) ∧ tp_stv P i y v i' y' := by
  constructor
  · rintro ⟨h1, h2, ⟨h3, h4, h5, v, h6, h7, h8⟩, h9, h10⟩
    exact ⟨v, h6, h7, h1, h2, h3, h4, h5, h8, h9, h10⟩
  · rintro ⟨v, h6, h7, h1, h2, h3, h4, h5, h8, h9, h10⟩
    exact ⟨h1, h2, ⟨h3, h4, h5, v, h6, h7, h8⟩, h9, h10⟩
/-- what 'after' answers -/
def tp_aft (P : tp_P) (i y v : Nat) (r : Int32) : Prop :=
  (r = -2 ∧ tp_trb (P.2.1 (i / 16)) (P.2.2.1 (i / 16)) (i % 16) y = true ∧ (∀ v i' y', ¬ tp_stv P i y v i' y') ∧ ¬ tp_enp P i y ∧ P.2.1 (i / 16) ≠ 9) ∨
  (r = -1 ∧ tp_trb (P.2.1 (i / 16)) (P.2.2.1 (i / 16)) (i % 16) y = false ∧ (∀ v i' y', ¬ tp_stv P i y v i' y') ∧ tp_enp P i y) ∨
  (∃ i1 y1, i1 < 256 ∧ y1 < 16 ∧ r = nI (i1 * 16 + y1) ∧ tp_trb (P.2.1 (i / 16)) (P.2.2.1 (i / 16)) (i % 16) y = false ∧ (∀ i' y', tp_stv P i y v i' y' ↔ i' = i1 ∧ y' = y1) ∧ ¬ tp_enp P i y)
theorem tp_aft_hlt {P : tp_P} {i y v : Nat} (hi : i / 16 < P.1) (ho : P.2.1 (i / 16) = 14) : tp_aft P i y v (-1) := by
  refine Or.inr (Or.inl ⟨rfl, ?_, fun v i' y' h => h.2.2.1 ho, hi, Or.inl ho⟩)
  rw [ho]; rfl
theorem tp_aft_trap {P : tp_P} {i y v : Nat} (ht : tp_tr (P.2.1 (i / 16)) (P.2.2.1 (i / 16)) (i % 16) y) : tp_aft P i y v (-2) := by
  refine Or.inl ⟨rfl, (tp_trb_iff _ _ _ _).mpr ht, fun v i' y' h => h.2.2.2.1 ht, ?_, ?_⟩
  · rintro ⟨-, h | ⟨⟨x', y', h⟩, -⟩⟩
    · unfold tp_tr at ht; omega
    · exact h.2.1 ht
  · unfold tp_tr at ht; omega
theorem tp_aft_go {P : tp_P} {i y v : Nat} (okL : P.1 ≤ 16) (hi : i / 16 < P.1) (ho : P.2.1 (i / 16) ≠ 14) (ht : ¬ tp_tr (P.2.1 (i / 16)) (P.2.2.1 (i / 16)) (i % 16) y) {t : Int32} (htk : (tp_tk (P.2.1 (i / 16)) (i % 16) y ∧ t = P.2.2.1 (i / 16)) ∨ (¬ tp_tk (P.2.1 (i / 16)) (i % 16) y ∧ t = nI (i / 16 + 1))) :
    (tp_nw P.1 t → tp_aft P i y v (-1)) ∧ (∀ q, q < P.1 → t = nI q → tp_aft P i y v (nI ((q * 16 + tp_lo (tp_rx (P.2.1 (i / 16)) (P.2.2.1 (i / 16)) (i % 16) y)) * 16 + tp_lo (tp_ry (P.2.1 (i / 16)) (P.2.2.1 (i / 16)) (i % 16) y v)))) := by
  have hb : tp_trb (P.2.1 (i / 16)) (P.2.2.1 (i / 16)) (i % 16) y = false := by
    cases h : tp_trb (P.2.1 (i / 16)) (P.2.2.1 (i / 16)) (i % 16) y with
    | false => rfl
    | true => exact absurd ((tp_trb_iff _ _ _ _).mp h) ht
  constructor
  · intro nw
    refine Or.inr (Or.inl ⟨rfl, hb, fun v i' y' h => ?_, hi, Or.inr ⟨tp_mv_ex ho ht, fun q => ?_, fun q => ?_⟩⟩)
    · obtain ⟨-, h2, -, -, -, -, h7, h8⟩ := h
      rcases htk with ⟨g1, g2⟩ | ⟨g1, g2⟩
      · rw [g2, h7 g1, tp_nw_nI (by omega) (by omega)] at nw; omega
      · rw [g2, ← h8 g1, tp_nw_nI (by omega) (by omega)] at nw; omega
    · rcases htk with ⟨g1, g2⟩ | ⟨g1, g2⟩
      · rw [← g2]; exact nw
      · exact absurd q g1
    · rcases htk with ⟨g1, g2⟩ | ⟨g1, g2⟩
      · exact absurd g1 q
      · rw [g2, tp_nw_nI (by omega) (by omega)] at nw; exact nw
  · intro q hq e
    have hx := tp_lo_lt (tp_rx (P.2.1 (i / 16)) (P.2.2.1 (i / 16)) (i % 16) y)
    have hy := tp_lo_lt (tp_ry (P.2.1 (i / 16)) (P.2.2.1 (i / 16)) (i % 16) y v)
    refine Or.inr (Or.inr ⟨_, _, by omega, hy, rfl, hb, fun i' y' => ⟨?_, ?_⟩, ?_⟩)
    · rintro ⟨-, h2, -, -, h5, h6, h7, h8⟩
      refine ⟨?_, h6⟩
      have : i' / 16 = q := by
        rcases htk with ⟨g1, g2⟩ | ⟨g1, g2⟩
        · exact ((nI_eq (by omega) (by omega)).mp (e.symm.trans (g2.trans (h7 g1)))).symm
        · rw [h8 g1]; exact (nI_eq (by omega) (by omega)).mp (g2.symm.trans e)
      omega
    · rintro ⟨rfl, rfl⟩
      obtain ⟨d1, d2⟩ := tp_dm (p := q) hx
      unfold tp_stv
      rw [d1, d2]
      refine ⟨hi, hq, ho, ht, rfl, rfl, fun z => ?_, fun z => ?_⟩
      · rcases htk with ⟨g1, g2⟩ | ⟨g1, g2⟩
        · exact g2.symm.trans e
        · exact absurd z g1
      · rcases htk with ⟨g1, g2⟩ | ⟨g1, g2⟩
        · exact absurd g1 z
        · exact ((nI_eq (by omega) (by omega)).mp (g2.symm.trans e)).symm
    · rintro ⟨-, h | ⟨-, h1, h2⟩⟩
      · exact ho h
      · rcases htk with ⟨g1, g2⟩ | ⟨g1, g2⟩
        · have := h1 g1
          rw [← g2, e, tp_nw_nI (by omega) (by omega)] at this
          omega
        · have := h2 g1
          have h3 : i / 16 + 1 = q := (nI_eq (by omega) (by omega)).mp (g2.symm.trans e)
          omega
theorem tp_ix {i1 y1 : Nat} (h : y1 < 16) : (i1 * 16 + y1) / 16 = i1 ∧ (i1 * 16 + y1) % 16 = y1 := by omega
theorem tp_sm_split (F : Nat → Nat) (m : Nat) : ∀ n, tp_sm F (m + n) = tp_sm F m + tp_sm (fun x => F (m + x)) n
  | 0 => rfl
  | n + 1 => by
    show tp_sm F (m + n) + F (m + n) = tp_sm F m + (tp_sm (fun x => F (m + x)) n + F (m + n))
    rw [tp_sm_split F m n]; omega
theorem tp_sm_0 {F : Nat → Nat} : ∀ n, (∀ i, i < n → F i = 0) → tp_sm F n = 0
  | 0, _ => rfl
  | n + 1, h => by
    show tp_sm F n + F n = 0
    rw [tp_sm_0 n (fun i hi => h i (by omega)), h n (by omega)]
/-- a sum over the rows of one instruction -/
theorem tp_sm_p {F : Nat → Nat} {p : Nat} (hp : p < 16) (h : ∀ i, i / 16 ≠ p → F i = 0) : tp_sm F 256 = tp_sm (fun x => F (p * 16 + x)) 16 := by
  have h1 := tp_sm_split F (p * 16 + 16) (256 - (p * 16 + 16))
  rw [show p * 16 + 16 + (256 - (p * 16 + 16)) = 256 by omega] at h1
  rw [h1, tp_sm_split F (p * 16) 16, tp_sm_0 (p * 16) (fun i hi => h i (by omega)), tp_sm_0 (256 - (p * 16 + 16)) (fun i hi => h _ (by omega))]
  omega
end
section
/-! TrapProverModel: bad, after, count, goOn -/
set_option maxRecDepth 100000
theorem mX1_bad (v : Int32) (a : tz_S) : tz_Mi IX1 yX1_bad cX1_bad 2 .boolean 0 [v] a (fun r u => u = a ∧ r = tp_bz (v < 0 ∨ a 0 0 ≤ v)) := by
  refine tz_enter (by decide) rfl (Nat.le_of_ble_eq_true rfl) (fun E C R => ?_)
  show tz_Z _ E 0 [some (.ref (tz_h E 0)), some (.int v)] [] _
  refine tz_iload_1 C dX1_bad_0 ?_
  refine tz_if_lt (tgt := 12) C dX1_bad_1 (by decide) (fun c1 => ?_) (fun c1 => ?_)
  · skip
    refine tz_iconst (v := nI 1) C dX1_bad_12 (by decide) ?_
    refine tz_goto (tgt := 17) C dX1_bad_13 (by decide) ?_
    exact R _ _ _ _ dX1_bad_17 (by first | rfl | decide | exact tp_bz_nar _) (⟨rfl, (tp_bz_t (Or.inl c1)).symm⟩)
  · skip
    refine tz_iload_1 C dX1_bad_4 ?_
    refine tz_aload_0 C dX1_bad_5 ?_
    refine tz_getI okX1 C 0 dX1_bad_6 rfl (by decide) q226 ?_
    refine tz_icmp_lt (tgt := 16) C dX1_bad_9 (by decide) (fun c9 => ?_) (fun c9 => ?_)
    · skip
      refine tz_iconst (v := nI 0) C dX1_bad_16 (by decide) ?_
      exact R _ _ _ _ dX1_bad_17 (by first | rfl | decide | exact tp_bz_nar _) (⟨rfl, (tp_bz_f (fun q => q.elim c1 (fun q => Int32.not_le.mpr c9 q))).symm⟩)
    · skip
      refine tz_iconst (v := nI 1) C dX1_bad_12 (by decide) ?_
      refine tz_goto (tgt := 17) C dX1_bad_13 (by decide) ?_
      exact R _ _ _ _ dX1_bad_17 (by first | rfl | decide | exact tp_bz_nar _) (⟨rfl, (tp_bz_t (Or.inr (Int32.not_lt.mp c9))).symm⟩)
theorem mX1_count (row : Int32) (a : tz_S) : tz_Mi IX1 yX1_count cX1_count 4 .int 0 [row] a (fun r u => u = a ∧ r = nI (tp_cn (tp_bt row) 16)) := by
  refine tz_enter (by decide) rfl (Nat.le_of_ble_eq_true rfl) (fun E C R => ?_)
  show tz_Z _ E 0 [some (.ref (tz_h E 0)), some (.int row), none, none] [] _
  refine tz_iconst (v := nI 0) C dX1_count_0 (by decide) ?_
  refine tz_istore_2 C dX1_count_1 ?_
  refine tz_iconst (v := nI 0) C dX1_count_2 (by decide) ?_
  refine tz_istore_3 C dX1_count_3 ?_
  have loop : ∀ y, y ≤ 16 → tz_Z IX1 E 4 [some (.ref (tz_h E 0)), some (.int row), some (.int (nI (tp_cn (tp_bt row) y))), some (.int (nI y))] [] a := by
    refine tz_upto 16 (fun y hy ih => ?_)
    refine tz_iload_3 C dX1_count_4 ?_
    refine tz_bipush (v := nI 16) C dX1_count_5 (by decide) ?_
    refine tz_icmp_ge_n (tgt := 24) C dX1_count_7 (by decide) (fun c7 => ?_) (fun c7 => ?_)
    · skip
      refine tz_iload_2 C dX1_count_24 ?_
      exact R _ _ _ _ dX1_count_25 rfl (⟨rfl, by rw [show y = 16 by omega]⟩)
    · skip
      refine tz_iload_2 C dX1_count_10 ?_
      refine tz_iload_1 C dX1_count_11 ?_
      refine tz_iload_3 C dX1_count_12 ?_
      refine tz_ishr C dX1_count_13 ?_
      refine tz_iconst (v := nI 1) C dX1_count_14 (by decide) ?_
      refine tz_iand C dX1_count_15 ?_
      refine tz_top (tp_shr_n row (by omega)) ?_
      first | refine tz_iadd_n C dX1_count_16 ?_ | refine tz_iadd C dX1_count_16 ?_
      refine tz_istore_2 C dX1_count_17 ?_
      refine tz_iinc_3_n C dX1_count_18 ?_
      refine tz_goto (tgt := 4) C dX1_count_21 (by decide) ?_
      exact ih (by omega)
  exact loop 0 (by decide)
theorem mX1_after {P : tp_P} (okP : tp_okP P) {i y v : Nat} (hi : i / 16 < P.1) (hy : y < 16) (a : tz_S) (hP : tp_has P a) : tz_Mi IX1 yX1_after cX1_after 10 .int 1 [nI (i / 16), nI (i % 16), nI y, nI v] a (fun r u => u = a ∧ tp_aft P i y v r) := by
  have okL := okP.1
  have okO := okP.2.1 (i / 16)
  have hx : i % 16 < 16 := Nat.mod_lt _ (by decide)
  have e1 : a 1 (i / 16) = nI (P.2.1 (i / 16)) := hP.2.1 _
  have e2 : a 2 (i / 16) = P.2.2.1 (i / 16) := hP.2.2.1 _
  refine tz_enter (by decide) rfl (Nat.le_of_ble_eq_true rfl) (fun E C R => ?_)
  show tz_Z _ E 0 [some (.ref (tz_h E 0)), some (.int (nI (i / 16))), some (.int (nI (i % 16))), some (.int (nI y)), some (.int (nI v)), none, none, none, none, none] [] _
  refine tz_aload_0 C dX1_after_0 ?_
  refine tz_getA okX1 C 1 dX1_after_1 rfl q227 ?_
  refine tz_iload_1 C dX1_after_4 ?_
  refine tz_iald okX1 C dX1_after_5 rfl ?_
  refine tz_top (e1) ?_
  refine tz_istore_5 C dX1_after_6 ?_
  refine tz_aload_0 C dX1_after_8 ?_
  refine tz_getA okX1 C 2 dX1_after_9 rfl q228 ?_
  refine tz_iload_1 C dX1_after_12 ?_
  refine tz_iald okX1 C dX1_after_13 rfl ?_
  refine tz_top (e2) ?_
  refine tz_istore_6 C dX1_after_14 ?_
  refine tz_iload_1 C dX1_after_16 ?_
  refine tz_iconst (v := nI 1) C dX1_after_17 (by decide) ?_
  first | refine tz_iadd_n C dX1_after_18 ?_ | refine tz_iadd C dX1_after_18 ?_
  refine tz_istore_7 C dX1_after_19 ?_
  refine tz_iload_2 C dX1_after_21 ?_
  refine tz_istore_8 C dX1_after_22 ?_
  refine tz_iload_3 C dX1_after_24 ?_
  refine tz_istore_9 C dX1_after_25 ?_
  generalize ho : P.2.1 (i / 16) = o at okO
  generalize hc : P.2.2.1 (i / 16) = c
  have t243 : ∀ t X Y : Int32, X = tp_rx o c (i % 16) y → Y = tp_ry o c (i % 16) y v → o ≠ 14 → ¬ tp_tr o c (i % 16) y → ((tp_tk o (i % 16) y ∧ t = c) ∨ (¬ tp_tk o (i % 16) y ∧ t = nI (i / 16 + 1))) → tz_Z IX1 E 243 [some (.ref (tz_h E 0)), some (.int (nI (i / 16))), some (.int (nI (i % 16))), some (.int (nI y)), some (.int (nI v)), some (.int (nI o)), some (.int c), some (.int t), some (.int X), some (.int Y)] [] a := by
    intro t X Y hX hY h14 htr htk
    subst ho
    subst hc
    have key := tp_aft_go (v := v) okL hi h14 htr htk
    refine tz_aload_0 C dX1_after_243 ?_
    refine tz_iload_7 C dX1_after_244 ?_
    refine tz_call1 okX1 C vX1_bad (mX1_bad t a) dX1_after_246 (fun r u hu => ?_)
    obtain ⟨rfl, hr⟩ := hu
    have hr : r = tp_bz (tp_nw P.1 t) := by rw [hr, hP.1]; rfl
    subst hr
    refine tz_if_eq (tgt := 254) C dX1_after_249 (by decide) (fun c249 => ?_) (fun c249 => ?_)
    · obtain ⟨q, hq, rfl⟩ := tp_nw_not (by omega) (tp_bz_0.mp c249)
      refine tz_iload_7 C dX1_after_254 ?_
      refine tz_sipush (v := nI 256) C dX1_after_256 (by decide) ?_
      first | refine tz_imul_n C dX1_after_259 ?_ | refine tz_imul C dX1_after_259 ?_
      refine tz_iload_8 C dX1_after_260 ?_
      refine tz_bipush (v := nI 15) C dX1_after_262 (by decide) ?_
      refine tz_iand C dX1_after_264 ?_
      refine tz_top (tp_and15 _) ?_
      refine tz_bipush (v := nI 16) C dX1_after_265 (by decide) ?_
      first | refine tz_imul_n C dX1_after_267 ?_ | refine tz_imul C dX1_after_267 ?_
      first | refine tz_iadd_n C dX1_after_268 ?_ | refine tz_iadd C dX1_after_268 ?_
      refine tz_iload_9 C dX1_after_269 ?_
      refine tz_bipush (v := nI 15) C dX1_after_271 (by decide) ?_
      refine tz_iand C dX1_after_273 ?_
      refine tz_top (tp_and15 _) ?_
      first | refine tz_iadd_n C dX1_after_274 ?_ | refine tz_iadd C dX1_after_274 ?_
      refine R _ _ _ _ dX1_after_275 rfl ⟨rfl, ?_⟩
      have := key.2 q hq rfl
      rw [← hX, ← hY] at this
      rw [show q * 256 + tp_lo X * 16 + tp_lo Y = (q * 16 + tp_lo X) * 16 + tp_lo Y by omega]
      exact this
    · skip
      refine tz_iconst (v := -1) C dX1_after_252 (by decide) ?_
      exact R _ _ _ _ dX1_after_253 rfl (⟨rfl, key.1 (Classical.byContradiction fun q => c249 (tp_bz_0.mpr q))⟩)
  have t63 : tp_tr o c (i % 16) y → tz_Z IX1 E 63 [some (.ref (tz_h E 0)), some (.int (nI (i / 16))), some (.int (nI (i % 16))), some (.int (nI y)), some (.int (nI v)), some (.int (nI o)), some (.int c), some (.int (nI (i / 16 + 1))), some (.int (nI (i % 16))), some (.int (nI y))] [] a := by
    intro htr
    subst ho
    subst hc
    refine tz_bipush (v := -2) C dX1_after_63 (by decide) ?_
    exact R _ _ _ _ dX1_after_65 rfl (⟨rfl, tp_aft_trap htr⟩)
  have t239 : o ≠ 14 → ¬ tp_tr o c (i % 16) y → 10 ≤ o → tp_tk o (i % 16) y → tz_Z IX1 E 239 [some (.ref (tz_h E 0)), some (.int (nI (i / 16))), some (.int (nI (i % 16))), some (.int (nI y)), some (.int (nI v)), some (.int (nI o)), some (.int c), some (.int (nI (i / 16 + 1))), some (.int (nI (i % 16))), some (.int (nI y))] [] a := by
    intro h14 htr h10 htk
    refine tz_iload_6 C dX1_after_239 ?_
    refine tz_istore_7 C dX1_after_241 ?_
    exact t243 _ _ _ (tp_rx8 (by omega) _ _ _).symm (by unfold tp_ry; rw [if_neg (by omega), if_neg (by omega), if_neg (by omega)]) h14 htr (Or.inl ⟨htk, rfl⟩)
  have t228 : o ≠ 14 → ¬ tp_tr o c (i % 16) y → 8 ≤ o → o ≠ 9 → ¬ (o = 10 ∨ (o = 11 ∧ i % 16 = y) ∨ (o = 12 ∧ i % 16 < y)) → tz_Z IX1 E 228 [some (.ref (tz_h E 0)), some (.int (nI (i / 16))), some (.int (nI (i % 16))), some (.int (nI y)), some (.int (nI v)), some (.int (nI o)), some (.int c), some (.int (nI (i / 16 + 1))), some (.int (nI (i % 16))), some (.int (nI y))] [] a := by
    intro h14 htr h8 h9 hn
    have e8 := (tp_rx8 h8 c (i % 16) y).symm
    have e9 : nI y = tp_ry o c (i % 16) y v := by unfold tp_ry; rw [if_neg (by omega), if_neg (by omega), if_neg (by omega)]
    refine tz_iload_5 C dX1_after_228 ?_
    refine tz_bipush (v := nI 13) C dX1_after_230 (by decide) ?_
    refine tz_icmp_ne_n (tgt := 243) C dX1_after_232 (by decide) (fun c232 => ?_) (fun c232 => ?_)
    · exact t243 _ _ _ e8 e9 h14 htr (Or.inr ⟨by unfold tp_tk; omega, rfl⟩)
    · skip
      refine tz_iload_2 C dX1_after_235 ?_
      refine tz_if_ne (tgt := 243) C dX1_after_236 (by decide) (fun c236 => ?_) (fun c236 => ?_)
      · have hx0 : ¬ i % 16 = 0 := fun q => c236 (by rw [q]; rfl)
        exact t243 _ _ _ e8 e9 h14 htr (Or.inr ⟨by unfold tp_tk; omega, rfl⟩)
      · have hx0 : i % 16 = 0 := (nI_eq (by omega) (by decide)).mp (c236.trans nI_0.symm)
        exact t239 h14 htr (by omega) (by unfold tp_tk; omega)
  have t216 : o ≠ 14 → ¬ tp_tr o c (i % 16) y → 8 ≤ o → o ≠ 9 → ¬ (o = 10 ∨ (o = 11 ∧ i % 16 = y)) → tz_Z IX1 E 216 [some (.ref (tz_h E 0)), some (.int (nI (i / 16))), some (.int (nI (i % 16))), some (.int (nI y)), some (.int (nI v)), some (.int (nI o)), some (.int c), some (.int (nI (i / 16 + 1))), some (.int (nI (i % 16))), some (.int (nI y))] [] a := by
    intro h14 htr h8 h9 hn
    refine tz_iload_5 C dX1_after_216 ?_
    refine tz_bipush (v := nI 12) C dX1_after_218 (by decide) ?_
    refine tz_icmp_ne_n (tgt := 228) C dX1_after_220 (by decide) (fun c220 => ?_) (fun c220 => ?_)
    · exact t228 h14 htr h8 h9 (by omega)
    · skip
      refine tz_iload_2 C dX1_after_223 ?_
      refine tz_iload_3 C dX1_after_224 ?_
      refine tz_icmp_lt_n (tgt := 239) C dX1_after_225 (by decide) (fun c225 => ?_) (fun c225 => ?_)
      · exact t239 h14 htr (by omega) (by unfold tp_tk; omega)
      · exact t228 h14 htr h8 h9 (by omega)
  have t66 : o ≠ 14 → ¬ tp_tr o c (i % 16) y → tz_Z IX1 E 66 [some (.ref (tz_h E 0)), some (.int (nI (i / 16))), some (.int (nI (i % 16))), some (.int (nI y)), some (.int (nI v)), some (.int (nI o)), some (.int c), some (.int (nI (i / 16 + 1))), some (.int (nI (i % 16))), some (.int (nI y))] [] a := by
    intro h14 htr
    have nt : o < 10 → ¬ tp_tk o (i % 16) y := fun h => by unfold tp_tk; omega
    refine tz_iload_5 C dX1_after_66 ?_
    refine tz_if_ne (tgt := 78) C dX1_after_68 (by decide) (fun c68 => ?_) (fun c68 => ?_)
    · have h0 : ¬ o = 0 := fun q => c68 (by rw [q]; rfl)
      refine tz_iload_5 C dX1_after_78 ?_
      refine tz_iconst (v := nI 1) C dX1_after_80 (by decide) ?_
      refine tz_icmp_ne_n (tgt := 91) C dX1_after_81 (by decide) (fun c81 => ?_) (fun c81 => ?_)
      · skip
        refine tz_iload_5 C dX1_after_91 ?_
        refine tz_iconst (v := nI 2) C dX1_after_93 (by decide) ?_
        refine tz_icmp_ne_n (tgt := 106) C dX1_after_94 (by decide) (fun c94 => ?_) (fun c94 => ?_)
        · skip
          refine tz_iload_5 C dX1_after_106 ?_
          refine tz_iconst (v := nI 3) C dX1_after_108 (by decide) ?_
          refine tz_icmp_ne_n (tgt := 120) C dX1_after_109 (by decide) (fun c109 => ?_) (fun c109 => ?_)
          · skip
            refine tz_iload_5 C dX1_after_120 ?_
            refine tz_iconst (v := nI 4) C dX1_after_122 (by decide) ?_
            refine tz_icmp_ne_n (tgt := 134) C dX1_after_123 (by decide) (fun c123 => ?_) (fun c123 => ?_)
            · skip
              refine tz_iload_5 C dX1_after_134 ?_
              refine tz_iconst (v := nI 5) C dX1_after_136 (by decide) ?_
              refine tz_icmp_ne_n (tgt := 148) C dX1_after_137 (by decide) (fun c137 => ?_) (fun c137 => ?_)
              · have t167 : ¬ o = 6 → tz_Z IX1 E 167 [some (.ref (tz_h E 0)), some (.int (nI (i / 16))), some (.int (nI (i % 16))), some (.int (nI y)), some (.int (nI v)), some (.int (nI o)), some (.int c), some (.int (nI (i / 16 + 1))), some (.int (nI (i % 16))), some (.int (nI y))] [] a := by
                  intro h6
                  refine tz_iload_5 C dX1_after_167 ?_
                  refine tz_bipush (v := nI 7) C dX1_after_169 (by decide) ?_
                  refine tz_icmp_ne_n (tgt := 183) C dX1_after_171 (by decide) (fun c171 => ?_) (fun c171 => ?_)
                  · skip
                    refine tz_iload_5 C dX1_after_183 ?_
                    refine tz_bipush (v := nI 9) C dX1_after_185 (by decide) ?_
                    refine tz_icmp_ne_n (tgt := 197) C dX1_after_187 (by decide) (fun c187 => ?_) (fun c187 => ?_)
                    · skip
                      refine tz_iload_5 C dX1_after_197 ?_
                      refine tz_bipush (v := nI 10) C dX1_after_199 (by decide) ?_
                      refine tz_icmp_eq_n (tgt := 239) C dX1_after_201 (by decide) (fun c201 => ?_) (fun c201 => ?_)
                      · exact t239 h14 htr (by omega) (by unfold tp_tk; omega)
                      · skip
                        refine tz_iload_5 C dX1_after_204 ?_
                        refine tz_bipush (v := nI 11) C dX1_after_206 (by decide) ?_
                        refine tz_icmp_ne_n (tgt := 216) C dX1_after_208 (by decide) (fun c208 => ?_) (fun c208 => ?_)
                        · exact t216 h14 htr (by omega) c187 (by omega)
                        · skip
                          refine tz_iload_2 C dX1_after_211 ?_
                          refine tz_iload_3 C dX1_after_212 ?_
                          refine tz_icmp_eq_n (tgt := 239) C dX1_after_213 (by decide) (fun c213 => ?_) (fun c213 => ?_)
                          · exact t239 h14 htr (by omega) (by unfold tp_tk; omega)
                          · exact t216 h14 htr (by omega) c187 (by omega)
                    · skip
                      refine tz_iload_4 C dX1_after_190 ?_
                      refine tz_istore_9 C dX1_after_192 ?_
                      refine tz_goto (tgt := 243) C dX1_after_194 (by decide) ?_
                      exact t243 _ _ _ (by simp [tp_rx, c187]) (by simp [tp_ry, c187]) h14 htr (Or.inr ⟨nt (by omega), rfl⟩)
                  · skip
                    refine tz_iload_3 C dX1_after_174 ?_
                    refine tz_istore_8 C dX1_after_175 ?_
                    refine tz_iload_2 C dX1_after_177 ?_
                    refine tz_istore_9 C dX1_after_178 ?_
                    refine tz_goto (tgt := 243) C dX1_after_180 (by decide) ?_
                    exact t243 _ _ _ (by simp [tp_rx, c171]) (by simp [tp_ry, c171]) h14 htr (Or.inr ⟨nt (by omega), rfl⟩)
                refine tz_iload_5 C dX1_after_148 ?_
                refine tz_bipush (v := nI 6) C dX1_after_150 (by decide) ?_
                refine tz_icmp_ne_n (tgt := 167) C dX1_after_152 (by decide) (fun c152 => ?_) (fun c152 => ?_)
                · exact t167 c152
                · skip
                  refine tz_iload_3 C dX1_after_155 ?_
                  refine tz_if_le (tgt := 167) C dX1_after_156 (by decide) (fun c156 => ?_) (fun c156 => ?_)
                  · have hy0 : y = 0 := by
                      rcases Nat.eq_zero_or_pos y with q | q
                      · exact q
                      · exact absurd c156 (nI_nle q (by omega))
                    exact absurd (Or.inl ⟨c152, hy0⟩) htr
                  · have hy0 : ¬ y = 0 := fun q => c156 (by rw [q]; decide)
                    refine tz_iload_2 C dX1_after_159 ?_
                    refine tz_iload_3 C dX1_after_160 ?_
                    refine tz_idiv_n C dX1_after_161 ?_
                    refine tz_istore_8 C dX1_after_162 ?_
                    refine tz_goto (tgt := 243) C dX1_after_164 (by decide) ?_
                    exact t243 _ _ _ (by simp [tp_rx, c152]) (by simp [tp_ry, c152]) h14 htr (Or.inr ⟨nt (by omega), rfl⟩)
              · skip
                refine tz_iload_2 C dX1_after_140 ?_
                refine tz_iload_3 C dX1_after_141 ?_
                first | refine tz_imul_n C dX1_after_142 ?_ | refine tz_imul C dX1_after_142 ?_
                refine tz_istore_8 C dX1_after_143 ?_
                refine tz_goto (tgt := 243) C dX1_after_145 (by decide) ?_
                exact t243 _ _ _ (by simp [tp_rx, c137]) (by simp [tp_ry, c137]) h14 htr (Or.inr ⟨nt (by omega), rfl⟩)
            · skip
              refine tz_iload_2 C dX1_after_126 ?_
              refine tz_iload_3 C dX1_after_127 ?_
              refine tz_isub C dX1_after_128 ?_
              refine tz_istore_8 C dX1_after_129 ?_
              refine tz_goto (tgt := 243) C dX1_after_131 (by decide) ?_
              exact t243 _ _ _ (by simp [tp_rx, c123]) (by simp [tp_ry, c123]) h14 htr (Or.inr ⟨nt (by omega), rfl⟩)
          · skip
            refine tz_iload_2 C dX1_after_112 ?_
            refine tz_iload_3 C dX1_after_113 ?_
            first | refine tz_iadd_n C dX1_after_114 ?_ | refine tz_iadd C dX1_after_114 ?_
            refine tz_istore_8 C dX1_after_115 ?_
            refine tz_goto (tgt := 243) C dX1_after_117 (by decide) ?_
            exact t243 _ _ _ (by simp [tp_rx, c109]) (by simp [tp_ry, c109]) h14 htr (Or.inr ⟨nt (by omega), rfl⟩)
        · skip
          refine tz_iload_2 C dX1_after_97 ?_
          refine tz_iload_6 C dX1_after_98 ?_
          first | refine tz_iadd_n C dX1_after_100 ?_ | refine tz_iadd C dX1_after_100 ?_
          refine tz_istore_8 C dX1_after_101 ?_
          refine tz_goto (tgt := 243) C dX1_after_103 (by decide) ?_
          exact t243 _ _ _ (by simp [tp_rx, c94]) (by simp [tp_ry, c94]) h14 htr (Or.inr ⟨nt (by omega), rfl⟩)
      · skip
        refine tz_iload_6 C dX1_after_84 ?_
        refine tz_istore_9 C dX1_after_86 ?_
        refine tz_goto (tgt := 243) C dX1_after_88 (by decide) ?_
        exact t243 _ _ _ (by simp [tp_rx, c81]) (by simp [tp_ry, c81]) h14 htr (Or.inr ⟨nt (by omega), rfl⟩)
    · have h0 : o = 0 := (nI_eq (by omega) (by decide)).mp (c68.trans nI_0.symm)
      refine tz_iload_6 C dX1_after_71 ?_
      refine tz_istore_8 C dX1_after_73 ?_
      refine tz_goto (tgt := 243) C dX1_after_75 (by decide) ?_
      exact t243 _ _ _ (by simp [tp_rx, h0]) (by simp [tp_ry, h0]) h14 htr (Or.inr ⟨nt (by omega), rfl⟩)
  have h5 := tp_l5_lt c
  have t47 : o ≠ 14 → ¬ (o = 6 ∧ y = 0) → tz_Z IX1 E 47 [some (.ref (tz_h E 0)), some (.int (nI (i / 16))), some (.int (nI (i % 16))), some (.int (nI y)), some (.int (nI v)), some (.int (nI o)), some (.int c), some (.int (nI (i / 16 + 1))), some (.int (nI (i % 16))), some (.int (nI y))] [] a := by
    intro h14 h6
    refine tz_iload_5 C dX1_after_47 ?_
    refine tz_bipush (v := nI 8) C dX1_after_49 (by decide) ?_
    refine tz_icmp_ne_n (tgt := 66) C dX1_after_51 (by decide) (fun c51 => ?_) (fun c51 => ?_)
    · exact t66 h14 (by unfold tp_tr; omega)
    · skip
      refine tz_iload_2 C dX1_after_54 ?_
      refine tz_iload_6 C dX1_after_55 ?_
      refine tz_bipush (v := nI 31) C dX1_after_57 (by decide) ?_
      refine tz_iand C dX1_after_59 ?_
      refine tz_top (tp_and31 _) ?_
      refine tz_icmp_lt_n (tgt := 66) C dX1_after_60 (by decide) (fun c60 => ?_) (fun c60 => ?_)
      · exact t66 h14 (by unfold tp_tr; omega)
      · exact t63 (Or.inr ⟨c51, c60⟩)
  refine tz_iload_5 C dX1_after_27 ?_
  refine tz_bipush (v := nI 14) C dX1_after_29 (by decide) ?_
  refine tz_icmp_ne_n (tgt := 36) C dX1_after_31 (by decide) (fun c31 => ?_) (fun c31 => ?_)
  · skip
    refine tz_iload_5 C dX1_after_36 ?_
    refine tz_bipush (v := nI 6) C dX1_after_38 (by decide) ?_
    refine tz_icmp_ne_n (tgt := 47) C dX1_after_40 (by decide) (fun c40 => ?_) (fun c40 => ?_)
    · exact t47 c31 (by omega)
    · skip
      refine tz_iload_3 C dX1_after_43 ?_
      refine tz_if_eq (tgt := 63) C dX1_after_44 (by decide) (fun c44 => ?_) (fun c44 => ?_)
      · have hy0 : y = 0 := (nI_eq (by omega) (by decide)).mp (c44.trans nI_0.symm)
        exact t63 (Or.inl ⟨c40, hy0⟩)
      · have hy0 : ¬ y = 0 := fun q => c44 (by rw [q]; rfl)
        exact t47 c31 (by omega)
  · skip
    refine tz_iconst (v := -1) C dX1_after_34 (by decide) ?_
    exact R _ _ _ _ dX1_after_35 rfl (⟨rfl, tp_aft_hlt hi (ho.trans c31)⟩)
/-- what goOn does: u after a, for the state (i, y) -/
def tp_Go (P : tp_P) (i y : Nat) (en : Prop) (tv : Nat) (a u : tz_S) : Prop :=
  (∀ k, k ≠ 8 → k ≠ 11 → k ≠ 12 → u k = a k) ∧ (∀ j, j < 256 → ∀ z, tp_bt (u 8 j) z = true ↔ tp_bt (a 8 j) z = true ∨ (¬ tp_bt (a 6 j) z = true ∧ tp_stp P i y j z)) ∧ (∀ p, p ≠ i / 16 → u 11 p = a 11 p) ∧ u 11 (i / 16) = nI (tv + if tp_trb (P.2.1 (i / 16)) (P.2.2.1 (i / 16)) (i % 16) y then 1 else 0) ∧ u 12 0 = tp_bz (en ∨ tp_enp P i y)
theorem mX1_goOn {P : tp_P} (okP : tp_okP P) {i y : Nat} (hi : i / 16 < P.1) (hy : y < 16) (a : tz_S) (hP : tp_has P a) (en : Prop) (hen : a 12 0 = tp_bz en) (tv : Nat) (htv : a 11 (i / 16) = nI tv) : tz_Mv IX1 yX1_goOn cX1_goOn 7 2 [nI (i / 16), nI (i % 16), nI y] a (tp_Go P i y en tv a) := by
  have okL := okP.1
  have okO := okP.2.1 (i / 16)
  refine tz_enterv (by decide) rfl (Nat.le_of_ble_eq_true rfl) (fun E C R => ?_)
  show tz_Z _ E 0 [some (.ref (tz_h E 0)), some (.int (nI (i / 16))), some (.int (nI (i % 16))), some (.int (nI y)), none, none, none] [] _
  refine tz_iconst (v := nI 0) C dX1_goOn_0 (by decide) ?_
  refine tz_istore_4 C dX1_goOn_1 ?_
  have loop : ∀ v, v ≤ 16 → ∀ (o5 o6 : Option Value) (u : tz_S), ((∀ k, k ≠ 8 → k ≠ 11 → k ≠ 12 → u k = a k) ∧ (∀ j, j < 256 → ∀ z, tp_bt (u 8 j) z = true ↔ tp_bt (a 8 j) z = true ∨ (¬ tp_bt (a 6 j) z = true ∧ ∃ w, w < v ∧ (w = 0 ∨ P.2.1 (i / 16) = 9) ∧ tp_stv P i y w j z)) ∧ (∀ p, p ≠ i / 16 → u 11 p = a 11 p) ∧ u 11 (i / 16) = nI (tv + if (decide (0 < v) && tp_trb (P.2.1 (i / 16)) (P.2.2.1 (i / 16)) (i % 16) y) then 1 else 0) ∧ u 12 0 = tp_bz (en ∨ (0 < v ∧ tp_enp P i y))) → tz_Z IX1 E 3 [some (.ref (tz_h E 0)), some (.int (nI (i / 16))), some (.int (nI (i % 16))), some (.int (nI y)), some (.int (nI v)), o5, o6] [] u := by
    refine tz_upto 16 (fun v hv ih => ?_)
    intro o5 o6 u hu
    obtain ⟨u1, u2, u3, u4, u5⟩ := hu
    have hPu : tp_has P u := tp_has_kept hP (fun k hk => u1 k (by omega) (by omega) (by omega))
    have e1 : u 1 (i / 16) = nI (P.2.1 (i / 16)) := hPu.2.1 _
    have split : ∀ j z, (∃ w, w < v + 1 ∧ (w = 0 ∨ P.2.1 (i / 16) = 9) ∧ tp_stv P i y w j z) ↔ (∃ w, w < v ∧ (w = 0 ∨ P.2.1 (i / 16) = 9) ∧ tp_stv P i y w j z) ∨ ((v = 0 ∨ P.2.1 (i / 16) = 9) ∧ tp_stv P i y v j z) := fun j z => by
      constructor
      · rintro ⟨w, h1, h2⟩
        rcases Nat.lt_or_ge w v with q | q
        · exact Or.inl ⟨w, q, h2⟩
        · rw [show w = v by omega] at h2; exact Or.inr h2
      · rintro (⟨w, h1, h2⟩ | h2)
        · exact ⟨w, by omega, h2⟩
        · exact ⟨v, by omega, h2⟩
    have t26 : v < 16 → (v = 0 ∨ P.2.1 (i / 16) = 9) → tz_Z IX1 E 26 [some (.ref (tz_h E 0)), some (.int (nI (i / 16))), some (.int (nI (i % 16))), some (.int (nI y)), some (.int (nI v)), o5, o6] [] u := by
      intro hv16 hgo
      refine tz_aload_0 C dX1_goOn_26 ?_
      refine tz_iload_1 C dX1_goOn_27 ?_
      refine tz_iload_2 C dX1_goOn_28 ?_
      refine tz_iload_3 C dX1_goOn_29 ?_
      refine tz_iload_4 C dX1_goOn_30 ?_
      refine tz_call4 okX1 C vX1_after (mX1_after (v := v) okP hi hy u hPu) dX1_goOn_32 (fun r u' hr => ?_)
      obtain ⟨rfl, hr⟩ := hr
      rcases hr with ⟨hr, b1, b2, b3, b4⟩ | ⟨hr, b1, b2, b3⟩ | ⟨i1, y1, g1, g2, hr, b1, b2, b3⟩
      · -- a trap
        have hv0 : v = 0 := hgo.resolve_right b4
        subst hv0
        subst hr
        have t0 : u' 11 (i / 16) = nI tv := by rw [u4]; simp
        refine tz_istore_5 C dX1_goOn_35 ?_
        refine tz_iload_5 C dX1_goOn_37 ?_
        refine tz_bipush (v := -2) C dX1_goOn_39 (by decide) ?_
        refine tz_icmp_ne (tgt := 61) C dX1_goOn_41 (by decide) (fun c41 => ?_) (fun c41 => ?_)
        · exact absurd rfl c41
        · skip
          refine tz_aload_0 C dX1_goOn_44 ?_
          refine tz_getA okX1 C 11 dX1_goOn_45 rfl q237 ?_
          refine tz_iload_1 C dX1_goOn_48 ?_
          refine tz_aload_0 C dX1_goOn_49 ?_
          refine tz_getA okX1 C 11 dX1_goOn_50 rfl q237 ?_
          refine tz_iload_1 C dX1_goOn_53 ?_
          refine tz_iald okX1 C dX1_goOn_54 rfl ?_
          refine tz_top (t0) ?_
          refine tz_iconst (v := nI 1) C dX1_goOn_55 (by decide) ?_
          first | refine tz_iadd_n C dX1_goOn_56 ?_ | refine tz_iadd C dX1_goOn_56 ?_
          refine tz_iast okX1 C dX1_goOn_57 rfl ?_
          refine tz_goto (tgt := 120) C dX1_goOn_58 (by decide) ?_
          refine tz_iinc_4_n C dX1_goOn_120 ?_
          refine tz_goto (tgt := 3) C dX1_goOn_123 (by decide) ?_
          refine ih hv16 _ _ _ ⟨fun k h1 h2 h3 => by rw [tz_sw_o _ _ _ h2]; exact u1 k h1 h2 h3, fun j hj z => ?_, fun p hp => by rw [tz_sw_kn _ _ _ hp]; exact u3 p hp, ?_, ?_⟩
          · rw [tz_sw_o _ _ _ (by decide), u2 j hj z, split j z]
            refine or_congr Iff.rfl (and_congr Iff.rfl ⟨Or.inl, fun q => q.elim id (fun q => absurd q.2 (b2 _ _ _))⟩)
          · rw [tz_sw_kj]; simp [b1]
          · rw [tz_sw_o _ _ _ (by decide), u5]
            exact tp_bz_cg (or_congr Iff.rfl ⟨fun q => absurd q.2 b3, fun q => absurd q.2 b3⟩)
      · -- the end
        subst hr
        refine tz_istore_5 C dX1_goOn_35 ?_
        refine tz_iload_5 C dX1_goOn_37 ?_
        refine tz_bipush (v := -2) C dX1_goOn_39 (by decide) ?_
        refine tz_icmp_ne (tgt := 61) C dX1_goOn_41 (by decide) (fun c41 => ?_) (fun c41 => ?_)
        · skip
          refine tz_iload_5 C dX1_goOn_61 ?_
          refine tz_iconst (v := -1) C dX1_goOn_63 (by decide) ?_
          refine tz_icmp_ne (tgt := 75) C dX1_goOn_64 (by decide) (fun c64 => ?_) (fun c64 => ?_)
          · exact absurd rfl c64
          · skip
            refine tz_aload_0 C dX1_goOn_67 ?_
            refine tz_iconst (v := nI 1) C dX1_goOn_68 (by decide) ?_
            refine tz_putI okX1 C 12 dX1_goOn_69 rfl (by decide) q238 (by first | rfl | decide) (by first | rfl | decide) ?_
            refine tz_goto (tgt := 120) C dX1_goOn_72 (by decide) ?_
            refine tz_iinc_4_n C dX1_goOn_120 ?_
            refine tz_goto (tgt := 3) C dX1_goOn_123 (by decide) ?_
            refine ih hv16 _ _ _ ⟨fun k h1 h2 h3 => by rw [tz_sw_o _ _ _ h3]; exact u1 k h1 h2 h3, fun j hj z => ?_, fun p hp => by rw [tz_sw_o _ _ _ (by decide)]; exact u3 p hp, ?_, ?_⟩
            · rw [tz_sw_o _ _ _ (by decide), u2 j hj z, split j z]
              refine or_congr Iff.rfl (and_congr Iff.rfl ⟨Or.inl, fun q => q.elim id (fun q => absurd q.2 (b2 _ _ _))⟩)
            · rw [tz_sw_o _ _ _ (by decide), u4]; simp [b1]
            · rw [tz_sw_kj]
              exact (tp_bz_t (Or.inr ⟨by omega, b3⟩)).symm
        · exact absurd c41 (by decide)
      · -- a state
        subst hr
        obtain ⟨d1, d2⟩ := tp_ix (i1 := i1) g2
        refine tz_istore_5 C dX1_goOn_35 ?_
        refine tz_iload_5 C dX1_goOn_37 ?_
        refine tz_bipush (v := -2) C dX1_goOn_39 (by decide) ?_
        refine tz_icmp_ne (tgt := 61) C dX1_goOn_41 (by decide) (fun c41 => ?_) (fun c41 => ?_)
        · skip
          refine tz_iload_5 C dX1_goOn_61 ?_
          refine tz_iconst (v := -1) C dX1_goOn_63 (by decide) ?_
          refine tz_icmp_ne (tgt := 75) C dX1_goOn_64 (by decide) (fun c64 => ?_) (fun c64 => ?_)
          · skip
            refine tz_iconst (v := nI 1) C dX1_goOn_75 (by decide) ?_
            refine tz_iload_5 C dX1_goOn_76 ?_
            refine tz_bipush (v := nI 16) C dX1_goOn_78 (by decide) ?_
            refine tz_irem_n C dX1_goOn_80 ?_
            rw [d2]
            refine tz_ishl C dX1_goOn_81 ?_
            refine tz_istore_6 C dX1_goOn_82 ?_
            refine tz_aload_0 C dX1_goOn_84 ?_
            refine tz_getA okX1 C 8 dX1_goOn_85 rfl q234 ?_
            refine tz_iload_5 C dX1_goOn_88 ?_
            refine tz_bipush (v := nI 16) C dX1_goOn_90 (by decide) ?_
            refine tz_idiv_n C dX1_goOn_92 ?_
            refine tz_aload_0 C dX1_goOn_93 ?_
            refine tz_getA okX1 C 8 dX1_goOn_94 rfl q234 ?_
            refine tz_iload_5 C dX1_goOn_97 ?_
            refine tz_bipush (v := nI 16) C dX1_goOn_99 (by decide) ?_
            refine tz_idiv_n C dX1_goOn_101 ?_
            refine tz_iald okX1 C dX1_goOn_102 rfl ?_
            refine tz_iload_6 C dX1_goOn_103 ?_
            refine tz_aload_0 C dX1_goOn_105 ?_
            refine tz_getA okX1 C 6 dX1_goOn_106 rfl q232 ?_
            refine tz_iload_5 C dX1_goOn_109 ?_
            refine tz_bipush (v := nI 16) C dX1_goOn_111 (by decide) ?_
            refine tz_idiv_n C dX1_goOn_113 ?_
            refine tz_iald okX1 C dX1_goOn_114 rfl ?_
            refine tz_iconst (v := -1) C dX1_goOn_115 (by decide) ?_
            refine tz_ixor C dX1_goOn_116 ?_
            refine tz_iand C dX1_goOn_117 ?_
            refine tz_ior C dX1_goOn_118 ?_
            refine tz_iast okX1 C dX1_goOn_119 rfl ?_
            refine tz_iinc_4_n C dX1_goOn_120 ?_
            refine tz_goto (tgt := 3) C dX1_goOn_123 (by decide) ?_
            rw [d1]
            refine ih hv16 _ _ _ ⟨fun k h1 h2 h3 => by rw [tz_sw_o _ _ _ h1]; exact u1 k h1 h2 h3, fun j hj z => ?_, fun p hp => by rw [tz_sw_o _ _ _ (by decide)]; exact u3 p hp, ?_, ?_⟩
            · rw [tz_orv, u2 j hj z, split j z, or_assoc, tp_bt_and, tp_bt_not, tp_bt_shl1 g2, u1 6 (by decide) (by decide) (by decide)]
              have hs := b2 j z
              constructor
              · rintro (h | ⟨h1, h2⟩ | ⟨h1, h2⟩)
                · exact Or.inl h
                · exact Or.inr ⟨h1, Or.inl h2⟩
                · subst h1
                  simp at h2
                  obtain ⟨rfl, -, h3⟩ := h2
                  exact Or.inr ⟨by simp [h3], Or.inr ⟨hgo, hs.mpr ⟨rfl, rfl⟩⟩⟩
              · rintro (h | ⟨h1, h2 | ⟨h2, h3⟩⟩)
                · exact Or.inl h
                · exact Or.inr (Or.inl ⟨h1, h2⟩)
                · obtain ⟨rfl, rfl⟩ := hs.mp h3
                  refine Or.inr (Or.inr ⟨rfl, ?_⟩)
                  have : z < 32 := by omega
                  simp [this, h1]
            · rw [tz_sw_o _ _ _ (by decide), u4]; simp [b1]
            · rw [tz_sw_o _ _ _ (by decide), u5]
              exact tp_bz_cg (or_congr Iff.rfl ⟨fun q => absurd q.2 b3, fun q => absurd q.2 b3⟩)
          · have := nI_pos' (n := i1 * 16 + y1) (by omega)
            rw [c64] at this
            exact absurd this (by decide)
        · have := nI_pos' (n := i1 * 16 + y1) (by omega)
          rw [c41] at this
          exact absurd this (by decide)
    refine tz_iload_4 C dX1_goOn_3 ?_
    refine tz_bipush (v := nI 16) C dX1_goOn_5 (by decide) ?_
    refine tz_icmp_ge_n (tgt := 126) C dX1_goOn_7 (by decide) (fun c7 => ?_) (fun c7 => ?_)
    · have hv16 : v = 16 := by omega
      subst hv16
      refine R _ _ _ dX1_goOn_126 ⟨u1, fun j hj z => (u2 j hj z).trans (or_congr Iff.rfl (and_congr Iff.rfl ?_)), u3, ?_, u5.trans (tp_bz_cg (or_congr Iff.rfl ⟨fun q => q.2, fun q => ⟨by decide, q⟩⟩))⟩
      · exact tp_stv_iff.symm
      · rw [u4]; simp
    · skip
      refine tz_iload_4 C dX1_goOn_10 ?_
      refine tz_if_eq (tgt := 26) C dX1_goOn_12 (by decide) (fun c12 => ?_) (fun c12 => ?_)
      · have hv0 : v = 0 := (nI_eq (by omega) (by decide)).mp (c12.trans nI_0.symm)
        exact t26 c7 (Or.inl hv0)
      · have hv0 : ¬ v = 0 := fun q => c12 (by rw [q]; rfl)
        refine tz_aload_0 C dX1_goOn_15 ?_
        refine tz_getA okX1 C 1 dX1_goOn_16 rfl q227 ?_
        refine tz_iload_1 C dX1_goOn_19 ?_
        refine tz_iald okX1 C dX1_goOn_20 rfl ?_
        refine tz_top (e1) ?_
        refine tz_bipush (v := nI 9) C dX1_goOn_21 (by decide) ?_
        refine tz_icmp_ne_n (tgt := 120) C dX1_goOn_23 (by decide) (fun c23 => ?_) (fun c23 => ?_)
        · skip
          refine tz_iinc_4_n C dX1_goOn_120 ?_
          refine tz_goto (tgt := 3) C dX1_goOn_123 (by decide) ?_
          refine ih c7 _ _ u ⟨u1, fun j hj z => (u2 j hj z).trans (or_congr Iff.rfl (and_congr Iff.rfl ?_)), u3, ?_, u5.trans (tp_bz_cg (or_congr Iff.rfl ⟨fun q => ⟨by omega, q.2⟩, fun q => ⟨by omega, q.2⟩⟩))⟩
          · rw [split j z]
            exact ⟨Or.inl, fun q => q.elim id (fun q => absurd q.1 (fun h => h.elim hv0 c23))⟩
          · rw [u4]
            have h1 : 0 < v := by omega
            simp [h1]
        · exact t26 c7 (Or.inr c23)
  refine loop 0 (by decide) none none a ⟨fun _ _ _ _ => rfl, fun j hj z => ⟨Or.inl, fun q => q.elim id (fun ⟨_, w, h, _⟩ => absurd h (Nat.not_lt_zero _))⟩, fun _ _ => rfl, by rw [htv]; simp, hen.trans (tp_bz_cg ⟨Or.inl, fun q => q.elim id (fun q => absurd q.1 (Nat.not_lt_zero _))⟩)⟩
end
section
/-! TrapProverModel: round, take, kept, goOnForEver -/
set_option maxRecDepth 100000
/-- state (i0, y0) lies ahead of (i, y) -/
def tp_bf (i y i0 y0 : Nat) : Prop := i0 < i ∨ (i0 = i ∧ y0 < y)
theorem tp_bf_s {i y i0 y0 : Nat} : tp_bf i (y + 1) i0 y0 ↔ tp_bf i y i0 y0 ∨ (i0 = i ∧ y0 = y) := by unfold tp_bf; omega
theorem tp_bf_0 {i0 y0 : Nat} : ¬ tp_bf 0 0 i0 y0 := by unfold tp_bf; omega
theorem tp_bf_n {i i0 y0 : Nat} (h : y0 < 16) : tp_bf (i + 1) 0 i0 y0 ↔ tp_bf i 16 i0 y0 := by unfold tp_bf; omega
/-- traps among the first n of row i; at p among the rows below i -/
def tp_tc (P : tp_P) (f : Nat → Int32) (i n : Nat) : Nat := tp_cn (fun y => tp_bt (f i) y && tp_trb (P.2.1 (i / 16)) (P.2.2.1 (i / 16)) (i % 16) y) n
def tp_tp (P : tp_P) (f : Nat → Int32) (p i : Nat) : Nat := tp_sm (fun j => if j / 16 = p then tp_tc P f j 16 else 0) i
theorem tp_tc_s {P : tp_P} {f : Nat → Int32} {i n : Nat} (h : tp_bt (f i) n = true) : tp_tc P f i (n + 1) = tp_tc P f i n + (if tp_trb (P.2.1 (i / 16)) (P.2.2.1 (i / 16)) (i % 16) n then 1 else 0) := by
  show tp_tc P f i n + (if (tp_bt (f i) n && tp_trb (P.2.1 (i / 16)) (P.2.2.1 (i / 16)) (i % 16) n) = true then 1 else 0) = _
  rw [h, Bool.true_and]
theorem tp_tc_n {P : tp_P} {f : Nat → Int32} {i n : Nat} (h : ¬ tp_bt (f i) n = true) : tp_tc P f i (n + 1) = tp_tc P f i n := by
  have h : tp_bt (f i) n = false := by simpa using h
  show tp_tc P f i n + (if (tp_bt (f i) n && tp_trb (P.2.1 (i / 16)) (P.2.2.1 (i / 16)) (i % 16) n) = true then 1 else 0) = _
  rw [h, Bool.false_and]; rfl
theorem tp_tp_cT {P : tp_P} {f : Nat → Int32} {p : Nat} (hp : p < 16) : tp_tp P f p 256 = tp_cT P f p := by
  unfold tp_tp
  rw [tp_sm_p hp (fun i hi => if_neg hi)]
  refine tp_sm_cg 16 (fun x hx => ?_)
  obtain ⟨d1, d2⟩ := tp_dm (p := p) hx
  show (if (p * 16 + x) / 16 = p then tp_tc P f (p * 16 + x) 16 else 0) = _
  rw [if_pos d1]
  unfold tp_tc
  rw [d1, d2]
/-- the round's way: the states ahead of (i, y) are done -/
def tp_Rd (P : tp_P) (en : Prop) (tv : Nat → Nat) (a : tz_S) (i y : Nat) (u : tz_S) : Prop :=
  (∀ k, k ≠ 8 → k ≠ 11 → k ≠ 12 → u k = a k) ∧ (∀ j, j < 256 → ∀ z, tp_bt (u 8 j) z = true ↔ ¬ tp_bt (a 6 j) z = true ∧ ∃ i0 y0, tp_bf i y i0 y0 ∧ tp_bt (a 7 i0) y0 = true ∧ tp_stp P i0 y0 j z) ∧
  (∀ p, p < 16 → u 11 p = nI (tv p + (tp_tp P (a 7) p i + if i / 16 = p then tp_tc P (a 7) i y else 0))) ∧ u 12 0 = tp_bz (en ∨ ∃ i0 y0, tp_bf i y i0 y0 ∧ tp_bt (a 7 i0) y0 = true ∧ tp_enp P i0 y0)
theorem tp_Rd_go {P : tp_P} {en : Prop} {tv : Nat → Nat} {a u w : tz_S} {i y : Nat} (hi : i < 256) (hb : tp_bt (a 7 i) y = true) (h : tp_Rd P en tv a i y u) (g : tp_Go P i y (en ∨ ∃ i0 y0, tp_bf i y i0 y0 ∧ tp_bt (a 7 i0) y0 = true ∧ tp_enp P i0 y0) (tv (i / 16) + (tp_tp P (a 7) (i / 16) i + tp_tc P (a 7) i y)) u w) : tp_Rd P en tv a i (y + 1) w := by
  obtain ⟨u1, u2, u3, u4⟩ := h
  obtain ⟨g1, g2, g3, g4, g5⟩ := g
  refine ⟨fun k k1 k2 k3 => (g1 k k1 k2 k3).trans (u1 k k1 k2 k3), fun j hj z => ?_, fun p hp => ?_, ?_⟩
  · rw [g2 j hj z, u2 j hj z, u1 6 (by decide) (by decide) (by decide)]
    constructor
    · rintro (⟨h1, i0, y0, h2, h3⟩ | ⟨h1, h2⟩)
      · exact ⟨h1, i0, y0, tp_bf_s.mpr (Or.inl h2), h3⟩
      · exact ⟨h1, i, y, tp_bf_s.mpr (Or.inr ⟨rfl, rfl⟩), hb, h2⟩
    · rintro ⟨h1, i0, y0, h2, h3⟩
      rcases tp_bf_s.mp h2 with h2 | ⟨rfl, rfl⟩
      · exact Or.inl ⟨h1, i0, y0, h2, h3⟩
      · exact Or.inr ⟨h1, h3.2⟩
  · by_cases q : i / 16 = p
    · subst q
      rw [g4, if_pos rfl, tp_tc_s hb]
      congr 1
      omega
    · rw [g3 p (fun z => q z.symm), u3 p hp, if_neg q, if_neg q]
  · rw [g5]
    refine tp_bz_cg ?_
    rw [or_assoc]
    refine or_congr Iff.rfl ⟨?_, ?_⟩
    · rintro (⟨i0, y0, h2, h3⟩ | h2)
      · exact ⟨i0, y0, tp_bf_s.mpr (Or.inl h2), h3⟩
      · exact ⟨i, y, tp_bf_s.mpr (Or.inr ⟨rfl, rfl⟩), hb, h2⟩
    · rintro ⟨i0, y0, h2, h3⟩
      rcases tp_bf_s.mp h2 with h2 | ⟨rfl, rfl⟩
      · exact Or.inl ⟨i0, y0, h2, h3⟩
      · exact Or.inr h3.2
theorem tp_Rd_no {P : tp_P} {en : Prop} {tv : Nat → Nat} {a u : tz_S} {i y : Nat} (hb : ¬ tp_bt (a 7 i) y = true) (h : tp_Rd P en tv a i y u) : tp_Rd P en tv a i (y + 1) u := by
  obtain ⟨u1, u2, u3, u4⟩ := h
  refine ⟨u1, fun j hj z => (u2 j hj z).trans (and_congr Iff.rfl ⟨?_, ?_⟩), fun p hp => ?_, u4.trans (tp_bz_cg (or_congr Iff.rfl ⟨?_, ?_⟩))⟩
  · rintro ⟨i0, y0, h2, h3⟩; exact ⟨i0, y0, tp_bf_s.mpr (Or.inl h2), h3⟩
  · rintro ⟨i0, y0, h2, h3⟩
    rcases tp_bf_s.mp h2 with h2 | ⟨rfl, rfl⟩
    · exact ⟨i0, y0, h2, h3⟩
    · exact absurd h3.1 hb
  · rw [u3 p hp, tp_tc_n hb]
  · rintro ⟨i0, y0, h2, h3⟩; exact ⟨i0, y0, tp_bf_s.mpr (Or.inl h2), h3⟩
  · rintro ⟨i0, y0, h2, h3⟩
    rcases tp_bf_s.mp h2 with h2 | ⟨rfl, rfl⟩
    · exact ⟨i0, y0, h2, h3⟩
    · exact absurd h3.1 hb
theorem tp_Rd_nx {P : tp_P} {en : Prop} {tv : Nat → Nat} {a u : tz_S} {i : Nat} (hi : i < 256) (hw : ∀ i, i < 256 → ∀ y, tp_bt (a 7 i) y = true → y < 16) (h : tp_Rd P en tv a i 16 u) : tp_Rd P en tv a (i + 1) 0 u := by
  obtain ⟨u1, u2, u3, u4⟩ := h
  have key : ∀ i0 y0, tp_bt (a 7 i0) y0 = true → (tp_bf (i + 1) 0 i0 y0 ↔ tp_bf i 16 i0 y0) := fun i0 y0 hb => by
    rcases Nat.lt_or_ge i0 256 with q | q
    · exact tp_bf_n (hw i0 q y0 hb)
    · unfold tp_bf; omega
  refine ⟨u1, fun j hj z => (u2 j hj z).trans (and_congr Iff.rfl ⟨?_, ?_⟩), fun p hp => ?_, u4.trans (tp_bz_cg (or_congr Iff.rfl ⟨?_, ?_⟩))⟩
  · rintro ⟨i0, y0, h2, h3⟩; exact ⟨i0, y0, (key i0 y0 h3.1).mpr h2, h3⟩
  · rintro ⟨i0, y0, h2, h3⟩; exact ⟨i0, y0, (key i0 y0 h3.1).mp h2, h3⟩
  · rw [u3 p hp]
    have e : tp_tp P (a 7) p (i + 1) = tp_tp P (a 7) p i + (if i / 16 = p then tp_tc P (a 7) i 16 else 0) := rfl
    have e0 : (if (i + 1) / 16 = p then tp_tc P (a 7) (i + 1) 0 else 0) = 0 := by split <;> rfl
    rw [e, e0]
    rfl
  · rintro ⟨i0, y0, h2, h3⟩; exact ⟨i0, y0, (key i0 y0 h3.1).mpr h2, h3⟩
  · rintro ⟨i0, y0, h2, h3⟩; exact ⟨i0, y0, (key i0 y0 h3.1).mp h2, h3⟩
theorem mX1_round {P : tp_P} (okP : tp_okP P) (a : tz_S) (hP : tp_has P a) (en : Prop) (hen : a 12 0 = tp_bz en) (tv : Nat → Nat) (htv : ∀ p, p < 16 → a 11 p = nI (tv p)) (hw : ∀ i, i < 256 → ∀ y, tp_bt (a 7 i) y = true → i / 16 < P.1 ∧ y < 16) : tz_Mv IX1 yX1_round cX1_round 3 3 [] a (fun u => (∀ k, k ≠ 8 → k ≠ 11 → k ≠ 12 → u k = a k) ∧ (∀ j, j < 256 → ∀ z, tp_bt (u 8 j) z = true ↔ ¬ tp_bt (a 6 j) z = true ∧ ∃ i0 y0, i0 < 256 ∧ tp_bt (a 7 i0) y0 = true ∧ tp_stp P i0 y0 j z) ∧ (∀ p, p < 16 → u 11 p = nI (tv p + tp_cT P (a 7) p)) ∧ u 12 0 = tp_bz (en ∨ ∃ i0 y0, i0 < 256 ∧ tp_bt (a 7 i0) y0 = true ∧ tp_enp P i0 y0)) := by
  have okL := okP.1
  refine tz_enterv (by decide) rfl (Nat.le_of_ble_eq_true rfl) (fun E C R => ?_)
  show tz_Z _ E 0 [some (.ref (tz_h E 0)), none, none] [] _
  refine tz_iconst (v := nI 0) C dX1_round_0 (by decide) ?_
  refine tz_istore_1 C dX1_round_1 ?_
  have body : ∀ u : tz_S, ((∀ k, k ≠ 8 → u k = a k) ∧ ∀ i, i < 256 → u 8 i = nI 0) → tz_Z IX1 E 22 [some (.ref (tz_h E 0)), some (.int (nI 256)), none] [] u := by
    intro u0 h0
    refine tz_iconst (v := nI 0) C dX1_round_22 (by decide) ?_
    refine tz_istore_1 C dX1_round_23 ?_
    have loop : ∀ i, i ≤ 256 → ∀ (o2 : Option Value) (u : tz_S), tp_Rd P en tv a i 0 u → tz_Z IX1 E 24 [some (.ref (tz_h E 0)), some (.int (nI i)), o2] [] u := by
      refine tz_upto 256 (fun i hi ih => ?_)
      intro o2 u hu
      refine tz_iload_1 C dX1_round_24 ?_
      refine tz_sipush (v := nI 256) C dX1_round_25 (by decide) ?_
      refine tz_icmp_ge_n (tgt := 78) C dX1_round_28 (by decide) (fun c28 => ?_) (fun c28 => ?_)
      · have hi256 : i = 256 := by omega
        subst hi256
        obtain ⟨u1, u2, u3, u4⟩ := hu
        have key : ∀ i0 y0, tp_bf 256 0 i0 y0 ↔ i0 < 256 := fun i0 y0 => by unfold tp_bf; omega
        refine R _ _ _ dX1_round_78 ⟨u1, fun j hj z => (u2 j hj z).trans (and_congr Iff.rfl ⟨?_, ?_⟩), fun p hp => ?_, u4.trans (tp_bz_cg (or_congr Iff.rfl ⟨?_, ?_⟩))⟩
        · rintro ⟨i0, y0, h2, h3⟩; exact ⟨i0, y0, (key i0 y0).mp h2, h3⟩
        · rintro ⟨i0, y0, h2, h3⟩; exact ⟨i0, y0, (key i0 y0).mpr h2, h3⟩
        · rw [u3 p hp, if_neg (by omega), Nat.add_zero, tp_tp_cT hp]
        · rintro ⟨i0, y0, h2, h3⟩; exact ⟨i0, y0, (key i0 y0).mp h2, h3⟩
        · rintro ⟨i0, y0, h2, h3⟩; exact ⟨i0, y0, (key i0 y0).mpr h2, h3⟩
      · skip
        refine tz_iconst (v := nI 0) C dX1_round_31 (by decide) ?_
        refine tz_istore_2 C dX1_round_32 ?_
        have inner : ∀ y, y ≤ 16 → ∀ (u : tz_S), tp_Rd P en tv a i y u → tz_Z IX1 E 33 [some (.ref (tz_h E 0)), some (.int (nI i)), some (.int (nI y))] [] u := by
          refine tz_upto 16 (fun y hy ih2 => ?_)
          intro u hu
          have e7 : u 7 i = a 7 i := by rw [hu.1 7 (by decide) (by decide) (by decide)]
          refine tz_iload_2 C dX1_round_33 ?_
          refine tz_bipush (v := nI 16) C dX1_round_34 (by decide) ?_
          refine tz_icmp_ge_n (tgt := 72) C dX1_round_36 (by decide) (fun c36 => ?_) (fun c36 => ?_)
          · have hy16 : y = 16 := by omega
            subst hy16
            refine tz_iinc_1_n C dX1_round_72 ?_
            refine tz_goto (tgt := 24) C dX1_round_75 (by decide) ?_
            exact ih c28 _ u (tp_Rd_nx c28 (fun i hi y h => (hw i hi y h).2) hu)
          · skip
            refine tz_aload_0 C dX1_round_39 ?_
            refine tz_getA okX1 C 7 dX1_round_40 rfl q233 ?_
            refine tz_iload_1 C dX1_round_43 ?_
            refine tz_iald okX1 C dX1_round_44 rfl ?_
            refine tz_top (e7) ?_
            refine tz_iload_2 C dX1_round_45 ?_
            refine tz_ishr C dX1_round_46 ?_
            refine tz_iconst (v := nI 1) C dX1_round_47 (by decide) ?_
            refine tz_iand C dX1_round_48 ?_
            refine tz_iconst (v := nI 1) C dX1_round_49 (by decide) ?_
            refine tz_icmp_ne (tgt := 66) C dX1_round_50 (by decide) (fun c50 => ?_) (fun c50 => ?_)
            · have hb : ¬ tp_bt (a 7 i) y = true := fun q => c50 (tp_shr_t c36 q)
              refine tz_iinc_2_n C dX1_round_66 ?_
              refine tz_goto (tgt := 33) C dX1_round_69 (by decide) ?_
              exact ih2 c36 u (tp_Rd_no hb hu)
            · have hb : tp_bt (a 7 i) y = true := (tp_shr_iff _ c36).mp c50
              have hi16 := (hw i c28 y hb).1
              refine tz_aload_0 C dX1_round_53 ?_
              refine tz_iload_1 C dX1_round_54 ?_
              refine tz_bipush (v := nI 16) C dX1_round_55 (by decide) ?_
              refine tz_idiv_n C dX1_round_57 ?_
              refine tz_iload_1 C dX1_round_58 ?_
              refine tz_bipush (v := nI 16) C dX1_round_59 (by decide) ?_
              refine tz_irem_n C dX1_round_61 ?_
              refine tz_iload_2 C dX1_round_62 ?_
              refine tz_callv3 okX1 C vX1_goOn (mX1_goOn okP hi16 c36 u (tp_has_kept hP (fun k hk => hu.1 k (by omega) (by omega) (by omega))) _ hu.2.2.2 (tv (i / 16) + (tp_tp P (a 7) (i / 16) i + tp_tc P (a 7) i y)) (by rw [hu.2.2.1 (i / 16) (by omega), if_pos rfl])) dX1_round_63 (fun w hw1 => ?_)
              refine tz_iinc_2_n C dX1_round_66 ?_
              refine tz_goto (tgt := 33) C dX1_round_69 (by decide) ?_
              exact ih2 c36 w (tp_Rd_go c28 hb hu hw1)
        exact inner 0 (by decide) u hu
    refine loop 0 (by decide) none u0 ⟨fun k k1 k2 k3 => h0.1 k k1, fun j hj z => ?_, fun p hp => ?_, ?_⟩
    · rw [h0.2 j hj, tp_bt_n0]
      exact ⟨fun q => (by cases q), fun ⟨_, i0, y0, q, _⟩ => absurd q tp_bf_0⟩
    · rw [h0.1 11 (by decide), htv p hp]
      have e0 : (if 0 / 16 = p then tp_tc P (a 7) 0 0 else 0) = 0 := by split <;> rfl
      rw [e0]
      rfl
    · rw [h0.1 12 (by decide), hen]
      exact tp_bz_cg ⟨Or.inl, fun q => q.elim id (fun ⟨i0, y0, q, _⟩ => absurd q tp_bf_0)⟩
  have loop : ∀ i, i ≤ 256 → ∀ u : tz_S, ((∀ k, k ≠ 8 → u k = a k) ∧ ∀ i', i' < i → u 8 i' = nI 0) → tz_Z IX1 E 2 [some (.ref (tz_h E 0)), some (.int (nI i)), none] [] u := by
    refine tz_upto 256 (fun i hi ih => ?_)
    intro u hu
    refine tz_iload_1 C dX1_round_2 ?_
    refine tz_sipush (v := nI 256) C dX1_round_3 (by decide) ?_
    refine tz_icmp_ge_n (tgt := 22) C dX1_round_6 (by decide) (fun c6 => ?_) (fun c6 => ?_)
    · have hi256 : i = 256 := by omega
      subst hi256
      exact body u hu
    · skip
      refine tz_aload_0 C dX1_round_9 ?_
      refine tz_getA okX1 C 8 dX1_round_10 rfl q234 ?_
      refine tz_iload_1 C dX1_round_13 ?_
      refine tz_iconst (v := nI 0) C dX1_round_14 (by decide) ?_
      refine tz_iast okX1 C dX1_round_15 rfl ?_
      refine tz_iinc_1_n C dX1_round_16 ?_
      refine tz_goto (tgt := 2) C dX1_round_19 (by decide) ?_
      refine ih c6 _ ⟨fun k hk => by rw [tz_sw_o _ _ _ hk]; exact hu.1 k hk, fun i' hi' => ?_⟩
      rw [tz_sw_at]
      by_cases h : i' = i
      · simp [h]
      · simp only [h, if_false]; exact hu.2 i' (by omega)
  exact loop 0 (by decide) a ⟨fun _ _ => rfl, fun i' hi' => absurd hi' (Nat.not_lt_zero _)⟩
theorem mX1_take {lv : Nat} (hlv : lv ≤ 4096) (a : tz_S) : tz_Mi IX1 yX1_take cX1_take 4 .boolean 0 [nI lv] a (fun r u => (∀ k, k ≠ 6 → k ≠ 7 → k ≠ 10 → u k = a k) ∧ (∀ i, i < 256 → u 7 i = a 8 i ∧ u 6 i = a 6 i ||| a 8 i) ∧ (∀ p, p < 16 → ((a 10 p = -5 ∧ ∃ i, i < 256 ∧ i / 16 = p ∧ ¬ a 8 i = 0) → u 10 p = nI lv) ∧ (¬ (a 10 p = -5 ∧ ∃ i, i < 256 ∧ i / 16 = p ∧ ¬ a 8 i = 0) → u 10 p = a 10 p)) ∧ r = tp_bz (∃ i, i < 256 ∧ ¬ a 8 i = 0)) := by
  have hlv5 : ¬ nI lv = -5 := tp_m5 (by omega)
  refine tz_enter (by decide) rfl (Nat.le_of_ble_eq_true rfl) (fun E C R => ?_)
  show tz_Z _ E 0 [some (.ref (tz_h E 0)), some (.int (nI lv)), none, none] [] _
  refine tz_iconst (v := nI 0) C dX1_take_0 (by decide) ?_
  refine tz_istore_2 C dX1_take_1 ?_
  refine tz_iconst (v := nI 0) C dX1_take_2 (by decide) ?_
  refine tz_istore_3 C dX1_take_3 ?_
  have loop : ∀ i, i ≤ 256 → ∀ (s : Int32) (u : tz_S), ((∀ k, k ≠ 6 → k ≠ 7 → k ≠ 10 → u k = a k) ∧ (∀ i', i' < i → u 7 i' = a 8 i' ∧ u 6 i' = a 6 i' ||| a 8 i') ∧ (∀ i', i ≤ i' → u 6 i' = a 6 i') ∧ (∀ p, p < 16 → ((a 10 p = -5 ∧ ∃ i', i' < i ∧ i' / 16 = p ∧ ¬ a 8 i' = 0) → u 10 p = nI lv) ∧ (¬ (a 10 p = -5 ∧ ∃ i', i' < i ∧ i' / 16 = p ∧ ¬ a 8 i' = 0) → u 10 p = a 10 p)) ∧ s = tp_bz (∃ i', i' < i ∧ ¬ a 8 i' = 0)) → tz_Z IX1 E 4 [some (.ref (tz_h E 0)), some (.int (nI lv)), some (.int s), some (.int (nI i))] [] u := by
    refine tz_upto 256 (fun i hi ih => ?_)
    intro s u hu
    obtain ⟨u1, u2, u3, u4, us⟩ := hu
    refine tz_iload_3 C dX1_take_4 ?_
    refine tz_sipush (v := nI 256) C dX1_take_5 (by decide) ?_
    refine tz_icmp_ge_n (tgt := 83) C dX1_take_8 (by decide) (fun c8 => ?_) (fun c8 => ?_)
    · have hi256 : i = 256 := by omega
      subst hi256
      refine tz_iload_2 C dX1_take_83 ?_
      subst us
      exact R _ _ _ _ dX1_take_84 (by first | rfl | decide | exact tp_bz_nar _) (⟨u1, u2, u4, rfl⟩)
    · have e8 : u 8 i = a 8 i := by rw [u1 8 (by decide) (by decide) (by decide)]
      have e6 : u 6 i = a 6 i := u3 i (Nat.le_refl _)
      have en : u 6 i ||| u 8 i = a 6 i ||| a 8 i := by rw [e8, e6]
      have split : ∀ (q : Nat → Prop), (∃ i', i' < i + 1 ∧ q i' ∧ ¬ a 8 i' = 0) ↔ (∃ i', i' < i ∧ q i' ∧ ¬ a 8 i' = 0) ∨ (q i ∧ ¬ a 8 i = 0) := fun q => by
        constructor
        · rintro ⟨i', h1, h2⟩
          rcases Nat.lt_or_ge i' i with g | g
          · exact Or.inl ⟨i', g, h2⟩
          · rw [show i' = i by omega] at h2; exact Or.inr h2
        · rintro (⟨i', h1, h2⟩ | h2)
          · exact ⟨i', by omega, h2⟩
          · exact ⟨i, by omega, h2⟩
      have split1 : (∃ i', i' < i + 1 ∧ ¬ a 8 i' = 0) ↔ (∃ i', i' < i ∧ ¬ a 8 i' = 0) ∨ ¬ a 8 i = 0 := by
        have := split (fun _ => True)
        simpa using this
      have g8 : tz_sw u 6 i (a 6 i ||| a 8 i) 8 i = a 8 i := by rw [tz_sw_o _ _ _ (by decide)]; exact e8
      refine tz_aload_0 C dX1_take_11 ?_
      refine tz_getA okX1 C 6 dX1_take_12 rfl q232 ?_
      refine tz_iload_3 C dX1_take_15 ?_
      refine tz_aload_0 C dX1_take_16 ?_
      refine tz_getA okX1 C 6 dX1_take_17 rfl q232 ?_
      refine tz_iload_3 C dX1_take_20 ?_
      refine tz_iald okX1 C dX1_take_21 rfl ?_
      refine tz_aload_0 C dX1_take_22 ?_
      refine tz_getA okX1 C 8 dX1_take_23 rfl q234 ?_
      refine tz_iload_3 C dX1_take_26 ?_
      refine tz_iald okX1 C dX1_take_27 rfl ?_
      refine tz_ior C dX1_take_28 ?_
      refine tz_top (en) ?_
      refine tz_iast okX1 C dX1_take_29 rfl ?_
      refine tz_aload_0 C dX1_take_30 ?_
      refine tz_getA okX1 C 7 dX1_take_31 rfl q233 ?_
      refine tz_iload_3 C dX1_take_34 ?_
      refine tz_aload_0 C dX1_take_35 ?_
      refine tz_getA okX1 C 8 dX1_take_36 rfl q234 ?_
      refine tz_iload_3 C dX1_take_39 ?_
      refine tz_iald okX1 C dX1_take_40 rfl ?_
      refine tz_top (g8) ?_
      refine tz_iast okX1 C dX1_take_41 rfl ?_
      refine tz_aload_0 C dX1_take_42 ?_
      refine tz_getA okX1 C 8 dX1_take_43 rfl q234 ?_
      refine tz_iload_3 C dX1_take_46 ?_
      refine tz_iald okX1 C dX1_take_47 rfl ?_
      have f7 : ∀ j, tz_sw (tz_sw u 6 i (a 6 i ||| a 8 i)) 7 i (a 8 i) 7 j = if j = i then a 8 i else u 7 j := fun j => by rw [tz_sw_at, tz_sw_o _ _ _ (by decide)]
      have f6 : ∀ j, tz_sw (tz_sw u 6 i (a 6 i ||| a 8 i)) 7 i (a 8 i) 6 j = if j = i then a 6 i ||| a 8 i else u 6 j := fun j => by rw [tz_sw_o _ _ _ (by decide), tz_sw_at]
      have fk : ∀ k, k ≠ 6 → k ≠ 7 → tz_sw (tz_sw u 6 i (a 6 i ||| a 8 i)) 7 i (a 8 i) k = u k := fun k h1 h2 => by rw [tz_sw_o _ _ _ h2, tz_sw_o _ _ _ h1]
      refine tz_top ((congrFun (fk 8 (by decide) (by decide)) i).trans e8) ?_
      generalize tz_sw (tz_sw u 6 i (a 6 i ||| a 8 i)) 7 i (a 8 i) = w at f7 f6 fk ⊢
      have w67 : ∀ i', i' < i + 1 → w 7 i' = a 8 i' ∧ w 6 i' = a 6 i' ||| a 8 i' := fun i' hi' => by
        rw [f7, f6]
        by_cases h : i' = i
        · simp [h]
        · simp only [h, if_false]; exact u2 i' (by omega)
      have w6 : ∀ i', i + 1 ≤ i' → w 6 i' = a 6 i' := fun i' hi' => by
        rw [f6, if_neg (by omega)]; exact u3 i' (by omega)
      have wk : ∀ k, k ≠ 6 → k ≠ 7 → k ≠ 10 → w k = a k := fun k h1 h2 h3 => (fk k h1 h2).trans (u1 k h1 h2 h3)
      have w10 : w 10 = u 10 := fk 10 (by decide) (by decide)
      refine tz_if_eq (tgt := 77) C dX1_take_48 (by decide) (fun c48 => ?_) (fun c48 => ?_)
      · skip
        refine tz_iinc_3_n C dX1_take_77 ?_
        refine tz_goto (tgt := 4) C dX1_take_80 (by decide) ?_
        refine ih c8 s w ⟨wk, w67, w6, fun p hp => ?_, ?_⟩
        · rw [w10, split (fun i' => i' / 16 = p)]
          have hq : ((∃ i', i' < i ∧ i' / 16 = p ∧ ¬ a 8 i' = 0) ∨ (i / 16 = p ∧ ¬ a 8 i = 0)) ↔ ∃ i', i' < i ∧ i' / 16 = p ∧ ¬ a 8 i' = 0 := ⟨fun q => q.elim id (fun q => absurd c48 q.2), Or.inl⟩
          rw [hq]
          exact u4 p hp
        · rw [us]
          exact tp_bz_cg (by rw [split1]; exact ⟨Or.inl, fun q => q.elim id (fun q => absurd c48 q)⟩)
      · have hs1 : nI 1 = tp_bz (∃ i', i' < i + 1 ∧ ¬ a 8 i' = 0) := (tp_bz_t (split1.mpr (Or.inr c48))).symm
        have hp16 : i / 16 < 16 := by omega
        refine tz_iconst (v := nI 1) C dX1_take_51 (by decide) ?_
        refine tz_istore_2 C dX1_take_52 ?_
        refine tz_aload_0 C dX1_take_53 ?_
        refine tz_getA okX1 C 10 dX1_take_54 rfl q236 ?_
        refine tz_iload_3 C dX1_take_57 ?_
        refine tz_bipush (v := nI 16) C dX1_take_58 (by decide) ?_
        refine tz_idiv_n C dX1_take_60 ?_
        refine tz_iald okX1 C dX1_take_61 rfl ?_
        refine tz_bipush (v := -5) C dX1_take_62 (by decide) ?_
        refine tz_icmp_ne (tgt := 77) C dX1_take_64 (by decide) (fun c64 => ?_) (fun c64 => ?_)
        · skip
          refine tz_iinc_3_n C dX1_take_77 ?_
          refine tz_goto (tgt := 4) C dX1_take_80 (by decide) ?_
          refine ih c8 (nI 1) w ⟨wk, w67, w6, fun p hp => ?_, hs1⟩
          rw [w10, split (fun i' => i' / 16 = p)]
          rw [w10] at c64
          by_cases hpi : i / 16 = p
          · subst hpi
            refine ⟨fun q => ?_, fun q => ?_⟩
            · refine (u4 _ hp).1 ⟨q.1, ?_⟩
              apply Classical.byContradiction
              intro q1
              exact c64 (((u4 _ hp).2 (fun q2 => q1 q2.2)).trans q.1)
            · exact (u4 _ hp).2 (fun q2 => q ⟨q2.1, Or.inl q2.2⟩)
          · have hq : ((∃ i', i' < i ∧ i' / 16 = p ∧ ¬ a 8 i' = 0) ∨ (i / 16 = p ∧ ¬ a 8 i = 0)) ↔ ∃ i', i' < i ∧ i' / 16 = p ∧ ¬ a 8 i' = 0 := ⟨fun q => q.elim id (fun q => absurd q.1 hpi), Or.inl⟩
            rw [hq]
            exact u4 p hp
        · skip
          refine tz_aload_0 C dX1_take_67 ?_
          refine tz_getA okX1 C 10 dX1_take_68 rfl q236 ?_
          refine tz_iload_3 C dX1_take_71 ?_
          refine tz_bipush (v := nI 16) C dX1_take_72 (by decide) ?_
          refine tz_idiv_n C dX1_take_74 ?_
          refine tz_iload_1 C dX1_take_75 ?_
          refine tz_iast okX1 C dX1_take_76 rfl ?_
          refine tz_iinc_3_n C dX1_take_77 ?_
          refine tz_goto (tgt := 4) C dX1_take_80 (by decide) ?_
          rw [w10] at c64
          have a10 : a 10 (i / 16) = -5 := by
            apply Classical.byContradiction
            intro q
            exact q (((u4 _ hp16).2 (fun q2 => q q2.1)).symm.trans c64)
          refine ih c8 (nI 1) _ ⟨fun k h1 h2 h3 => by rw [tz_sw_o _ _ _ h3]; exact wk k h1 h2 h3, fun i' hi' => by rw [tz_sw_o _ _ _ (by decide), tz_sw_o _ _ _ (by decide)]; exact w67 i' hi', fun i' hi' => by rw [tz_sw_o _ _ _ (by decide)]; exact w6 i' hi', fun p hp => ?_, hs1⟩
          rw [tz_sw_at, split (fun i' => i' / 16 = p), w10]
          by_cases hpi : p = i / 16
          · subst hpi
            rw [if_pos rfl]
            exact ⟨fun _ => rfl, fun q => absurd ⟨a10, Or.inr ⟨rfl, c48⟩⟩ q⟩
          · rw [if_neg hpi]
            have hq : ((∃ i', i' < i ∧ i' / 16 = p ∧ ¬ a 8 i' = 0) ∨ (i / 16 = p ∧ ¬ a 8 i = 0)) ↔ ∃ i', i' < i ∧ i' / 16 = p ∧ ¬ a 8 i' = 0 := ⟨fun q => q.elim id (fun q => absurd q.1.symm hpi), Or.inl⟩
            rw [hq]
            exact u4 p hp
  refine loop 0 (by decide) (nI 0) a ⟨fun _ _ _ _ => rfl, fun i' hi' => absurd hi' (Nat.not_lt_zero _), fun _ _ => rfl, fun p hp => ⟨fun ⟨_, i', h, _⟩ => absurd h (Nat.not_lt_zero _), fun _ => rfl⟩, (tp_bz_f (fun ⟨i', h, _⟩ => absurd h (Nat.not_lt_zero _))).symm⟩
end
section
/-! TrapProverModel: kept, goOnForEver -/
set_option maxRecDepth 100000
theorem tp_shl0 : ∀ j, j < 16 → nI 0 <<< (nI j &&& 31) = nI 0 := by decide +kernel
theorem tp_or_n0 (v : Int32) : v ||| nI 0 = v := by apply tp_bt_ext; intro y; rw [tp_bt_or, tp_bt_n0, Bool.or_false]
/-- state (i, y) has, with a value read below v, a way to a state that A holds -/
def tp_kw (P : tp_P) (A : Nat → Int32) (i y v : Nat) : Prop := ∃ w, w < v ∧ (w = 0 ∨ P.2.1 (i / 16) = 9) ∧ ∃ i' y', tp_stv P i y w i' y' ∧ tp_bt (A i') y' = true
theorem tp_kw_s {P : tp_P} {A : Nat → Int32} {i y v : Nat} : tp_kw P A i y (v + 1) ↔ tp_kw P A i y v ∨ ((v = 0 ∨ P.2.1 (i / 16) = 9) ∧ ∃ i' y', tp_stv P i y v i' y' ∧ tp_bt (A i') y' = true) := by
  constructor
  · rintro ⟨w, h1, h2⟩
    rcases Nat.lt_or_ge w v with q | q
    · exact Or.inl ⟨w, q, h2⟩
    · rw [show w = v by omega] at h2; exact Or.inr h2
  · rintro (⟨w, h1, h2⟩ | h2)
    · exact ⟨w, by omega, h2⟩
    · exact ⟨v, by omega, h2⟩
theorem tp_kw_16 {P : tp_P} {A : Nat → Int32} {i y : Nat} : tp_kw P A i y 16 ↔ ∃ i' y', tp_stp P i y i' y' ∧ tp_bt (A i') y' = true := by
  constructor
  · rintro ⟨w, h1, h2, i', y', h3, h4⟩
    exact ⟨i', y', tp_stv_iff.mpr ⟨w, h1, h2, h3⟩, h4⟩
  · rintro ⟨i', y', h3, h4⟩
    obtain ⟨w, h1, h2, h3⟩ := tp_stv_iff.mp h3
    exact ⟨w, h1, h2, i', y', h3, h4⟩
theorem mX1_kept {P : tp_P} (okP : tp_okP P) {i : Nat} (hi : i < 256) (a : tz_S) (hP : tp_has P a) (hw : ∀ y, tp_bt (a 9 i) y = true → i / 16 < P.1 ∧ y < 16) : tz_Mi IX1 yX1_kept cX1_kept 6 .int 2 [nI i] a (fun r u => u = a ∧ ∀ y, tp_bt r y = true ↔ tp_bt (a 9 i) y = true ∧ ∃ i' y', tp_stp P i y i' y' ∧ tp_bt (a 9 i') y' = true) := by
  have okL := okP.1
  have hi16 : i / 16 < 16 := by omega
  have e1 : a 1 (i / 16) = nI (P.2.1 (i / 16)) := hP.2.1 _
  have okO := okP.2.1 (i / 16)
  refine tz_enter (by decide) rfl (Nat.le_of_ble_eq_true rfl) (fun E C R => ?_)
  show tz_Z _ E 0 [some (.ref (tz_h E 0)), some (.int (nI i)), none, none, none, none] [] _
  refine tz_iconst (v := nI 0) C dX1_kept_0 (by decide) ?_
  refine tz_istore_2 C dX1_kept_1 ?_
  refine tz_iconst (v := nI 0) C dX1_kept_2 (by decide) ?_
  refine tz_istore_3 C dX1_kept_3 ?_
  have loop : ∀ y, y ≤ 16 → ∀ (o4 o5 : Option Value) (mk : Int32), (∀ y', tp_bt mk y' = true ↔ y' < y ∧ tp_bt (a 9 i) y' = true ∧ tp_kw P (a 9) i y' 16) → tz_Z IX1 E 4 [some (.ref (tz_h E 0)), some (.int (nI i)), some (.int mk), some (.int (nI y)), o4, o5] [] a := by
    refine tz_upto 16 (fun y hy ih => ?_)
    intro o4 o5 mk hmk
    refine tz_iload_3 C dX1_kept_4 ?_
    refine tz_bipush (v := nI 16) C dX1_kept_5 (by decide) ?_
    refine tz_icmp_ge_n (tgt := 110) C dX1_kept_7 (by decide) (fun c7 => ?_) (fun c7 => ?_)
    · skip
      refine tz_iload_2 C dX1_kept_110 ?_
      refine R _ _ _ _ dX1_kept_111 rfl ⟨rfl, fun y' => (hmk y').trans ⟨fun h => ⟨h.2.1, tp_kw_16.mp h.2.2⟩, fun h => ⟨?_, h.1, tp_kw_16.mpr h.2⟩⟩⟩
      have := (hw y' h.1).2
      omega
    · skip
      refine tz_iconst (v := nI 0) C dX1_kept_10 (by decide) ?_
      refine tz_istore_4 C dX1_kept_11 ?_
      have inner : ∀ v, v ≤ 16 → ∀ (o5 : Option Value) (mk : Int32), (∀ y', tp_bt mk y' = true ↔ tp_bt (a 9 i) y' = true ∧ ((y' < y ∧ tp_kw P (a 9) i y' 16) ∨ (y' = y ∧ tp_kw P (a 9) i y v))) → tz_Z IX1 E 13 [some (.ref (tz_h E 0)), some (.int (nI i)), some (.int mk), some (.int (nI y)), some (.int (nI v)), o5] [] a := by
        refine tz_upto 16 (fun v hv ih2 => ?_)
        intro o5 mk hmk
        have same : ∀ (o5 : Option Value), v < 16 → (tp_bt (a 9 i) y = true → ¬ ((v = 0 ∨ P.2.1 (i / 16) = 9) ∧ ∃ i' y', tp_stv P i y v i' y' ∧ tp_bt (a 9 i') y' = true)) → tz_Z IX1 E 98 [some (.ref (tz_h E 0)), some (.int (nI i)), some (.int mk), some (.int (nI y)), some (.int (nI v)), o5] [] a := by
          intro o5 hv16 hno
          refine tz_iinc_4_n C dX1_kept_98 ?_
          refine tz_goto (tgt := 13) C dX1_kept_101 (by decide) ?_
          refine ih2 hv16 _ mk (fun y' => (hmk y').trans ⟨fun ⟨h1, h2⟩ => ⟨h1, h2.elim Or.inl (fun h => Or.inr ⟨h.1, tp_kw_s.mpr (Or.inl h.2)⟩)⟩, fun ⟨h1, h2⟩ => ⟨h1, h2.elim Or.inl (fun h => Or.inr ⟨h.1, ?_⟩)⟩⟩)
          obtain ⟨rfl, h⟩ := h
          exact (tp_kw_s.mp h).elim id (fun q => absurd q (hno h1))
        have go : v < 16 → tp_bt (a 9 i) y = true → (v = 0 ∨ P.2.1 (i / 16) = 9) → tz_Z IX1 E 53 [some (.ref (tz_h E 0)), some (.int (nI i)), some (.int mk), some (.int (nI y)), some (.int (nI v)), o5] [] a := by
          intro hv16 hb hgo
          have hi1 := (hw y hb).1
          refine tz_aload_0 C dX1_kept_53 ?_
          refine tz_iload_1 C dX1_kept_54 ?_
          refine tz_bipush (v := nI 16) C dX1_kept_55 (by decide) ?_
          refine tz_idiv_n C dX1_kept_57 ?_
          refine tz_iload_1 C dX1_kept_58 ?_
          refine tz_bipush (v := nI 16) C dX1_kept_59 (by decide) ?_
          refine tz_irem_n C dX1_kept_61 ?_
          refine tz_iload_3 C dX1_kept_62 ?_
          refine tz_iload_4 C dX1_kept_63 ?_
          refine tz_call4 okX1 C vX1_after (mX1_after (v := v) okP hi1 c7 a hP) dX1_kept_65 (fun r u hr => ?_)
          obtain ⟨rfl, hr⟩ := hr
          rcases hr with ⟨hr, b1, b2, b3, b4⟩ | ⟨hr, b1, b2, b3⟩ | ⟨i1, y1, g1, g2, hr, b1, b2, b3⟩
          · subst hr
            refine tz_istore_5 C dX1_kept_68 ?_
            refine tz_iload_5 C dX1_kept_70 ?_
            refine tz_if_lt (tgt := 98) C dX1_kept_72 (by decide) (fun c72 => ?_) (fun c72 => ?_)
            · exact same _ hv16 (fun _ ⟨_, i', y', h, _⟩ => b2 _ _ _ h)
            · exact absurd (by decide) c72
          · subst hr
            refine tz_istore_5 C dX1_kept_68 ?_
            refine tz_iload_5 C dX1_kept_70 ?_
            refine tz_if_lt (tgt := 98) C dX1_kept_72 (by decide) (fun c72 => ?_) (fun c72 => ?_)
            · exact same _ hv16 (fun _ ⟨_, i', y', h, _⟩ => b2 _ _ _ h)
            · exact absurd (by decide) c72
          · subst hr
            obtain ⟨d1, d2⟩ := tp_ix (i1 := i1) g2
            refine tz_istore_5 C dX1_kept_68 ?_
            refine tz_iload_5 C dX1_kept_70 ?_
            refine tz_if_lt (tgt := 98) C dX1_kept_72 (by decide) (fun c72 => ?_) (fun c72 => ?_)
            · exact absurd c72 (nI_pos (by omega))
            · skip
              refine tz_iload_2 C dX1_kept_75 ?_
              refine tz_aload_0 C dX1_kept_76 ?_
              refine tz_getA okX1 C 9 dX1_kept_77 rfl q235 ?_
              refine tz_iload_5 C dX1_kept_80 ?_
              refine tz_bipush (v := nI 16) C dX1_kept_82 (by decide) ?_
              refine tz_idiv_n C dX1_kept_84 ?_
              refine tz_iald okX1 C dX1_kept_85 rfl ?_
              rw [d1]
              refine tz_iload_5 C dX1_kept_86 ?_
              refine tz_bipush (v := nI 16) C dX1_kept_88 (by decide) ?_
              refine tz_irem_n C dX1_kept_90 ?_
              rw [d2]
              by_cases hb1 : tp_bt (u 9 i1) y1 = true
              · skip
                refine tz_ishr C dX1_kept_91 ?_
                refine tz_iconst (v := nI 1) C dX1_kept_92 (by decide) ?_
                refine tz_iand C dX1_kept_93 ?_
                refine tz_top (tp_shr_t g2 hb1) ?_
                refine tz_iload_3 C dX1_kept_94 ?_
                refine tz_ishl C dX1_kept_95 ?_
                refine tz_ior C dX1_kept_96 ?_
                refine tz_istore_2 C dX1_kept_97 ?_
                refine tz_iinc_4_n C dX1_kept_98 ?_
                refine tz_goto (tgt := 13) C dX1_kept_101 (by decide) ?_
                refine ih2 hv16 _ _ (fun y' => ?_)
                rw [tp_bt_or, tp_bt_shl1 c7, Bool.or_eq_true, hmk y', decide_eq_true_iff]
                constructor
                · rintro (⟨h1, h2⟩ | rfl)
                  · exact ⟨h1, h2.elim Or.inl (fun h => Or.inr ⟨h.1, tp_kw_s.mpr (Or.inl h.2)⟩)⟩
                  · exact ⟨hb, Or.inr ⟨rfl, tp_kw_s.mpr (Or.inr ⟨hgo, i1, y1, (b2 i1 y1).mpr ⟨rfl, rfl⟩, hb1⟩)⟩⟩
                · rintro ⟨h1, h2 | ⟨h2, -⟩⟩
                  · exact Or.inl ⟨h1, Or.inl h2⟩
                  · exact Or.inr h2
              · skip
                refine tz_ishr C dX1_kept_91 ?_
                refine tz_iconst (v := nI 1) C dX1_kept_92 (by decide) ?_
                refine tz_iand C dX1_kept_93 ?_
                refine tz_top (tp_shr_f g2 hb1) ?_
                refine tz_iload_3 C dX1_kept_94 ?_
                refine tz_ishl C dX1_kept_95 ?_
                refine tz_top (tp_shl0 y c7) ?_
                refine tz_ior C dX1_kept_96 ?_
                refine tz_top (tp_or_n0 mk) ?_
                refine tz_istore_2 C dX1_kept_97 ?_
                refine same _ hv16 (fun _ ⟨_, i', y', h, h2⟩ => ?_)
                obtain ⟨rfl, rfl⟩ := (b2 i' y').mp h
                exact hb1 h2
        refine tz_iload_4 C dX1_kept_13 ?_
        refine tz_bipush (v := nI 16) C dX1_kept_15 (by decide) ?_
        refine tz_icmp_ge_n (tgt := 104) C dX1_kept_17 (by decide) (fun c17 => ?_) (fun c17 => ?_)
        · have hv16 : v = 16 := by omega
          subst hv16
          refine tz_iinc_3_n C dX1_kept_104 ?_
          refine tz_goto (tgt := 4) C dX1_kept_107 (by decide) ?_
          refine ih c7 _ _ mk (fun y' => (hmk y').trans ⟨fun ⟨h1, h2⟩ => ?_, fun ⟨h1, h2, h3⟩ => ⟨h2, ?_⟩⟩)
          · rcases h2 with ⟨h2, h3⟩ | ⟨rfl, h3⟩
            · exact ⟨by omega, h1, h3⟩
            · exact ⟨by omega, h1, h3⟩
          · rcases Nat.lt_or_ge y' y with q | q
            · exact Or.inl ⟨q, h3⟩
            · have : y' = y := by omega
              subst this
              exact Or.inr ⟨rfl, h3⟩
        · skip
          refine tz_aload_0 C dX1_kept_20 ?_
          refine tz_getA okX1 C 9 dX1_kept_21 rfl q235 ?_
          refine tz_iload_1 C dX1_kept_24 ?_
          refine tz_iald okX1 C dX1_kept_25 rfl ?_
          refine tz_iload_3 C dX1_kept_26 ?_
          refine tz_ishr C dX1_kept_27 ?_
          refine tz_iconst (v := nI 1) C dX1_kept_28 (by decide) ?_
          refine tz_iand C dX1_kept_29 ?_
          refine tz_iconst (v := nI 1) C dX1_kept_30 (by decide) ?_
          refine tz_icmp_ne (tgt := 98) C dX1_kept_31 (by decide) (fun c31 => ?_) (fun c31 => ?_)
          · have hb : ¬ tp_bt (a 9 i) y = true := fun q => c31 (tp_shr_t c7 q)
            exact same _ c17 (fun q => absurd q hb)
          · have hb : tp_bt (a 9 i) y = true := (tp_shr_iff _ c7).mp c31
            refine tz_iload_4 C dX1_kept_34 ?_
            refine tz_if_eq (tgt := 53) C dX1_kept_36 (by decide) (fun c36 => ?_) (fun c36 => ?_)
            · have hv0 : v = 0 := (nI_eq (by omega) (by decide)).mp (c36.trans nI_0.symm)
              exact go c17 hb (Or.inl hv0)
            · have hv0 : ¬ v = 0 := fun q => c36 (by rw [q]; rfl)
              refine tz_aload_0 C dX1_kept_39 ?_
              refine tz_getA okX1 C 1 dX1_kept_40 rfl q227 ?_
              refine tz_iload_1 C dX1_kept_43 ?_
              refine tz_bipush (v := nI 16) C dX1_kept_44 (by decide) ?_
              refine tz_idiv_n C dX1_kept_46 ?_
              refine tz_iald okX1 C dX1_kept_47 rfl ?_
              refine tz_top (e1) ?_
              refine tz_bipush (v := nI 9) C dX1_kept_48 (by decide) ?_
              refine tz_icmp_ne_n (tgt := 98) C dX1_kept_50 (by decide) (fun c50 => ?_) (fun c50 => ?_)
              · exact same _ c17 (fun _ q => q.1.elim hv0 c50)
              · exact go c17 hb (Or.inr c50)
      refine inner 0 (by decide) o5 mk (fun y' => (hmk y').trans ⟨fun ⟨h1, h2, h3⟩ => ⟨h2, Or.inl ⟨h1, h3⟩⟩, fun ⟨h1, h2⟩ => ?_⟩)
      rcases h2 with ⟨h2, h3⟩ | ⟨h2, w, h3, _⟩
      · exact ⟨h2, h1, h3⟩
      · exact absurd h3 (Nat.not_lt_zero _)
  exact loop 0 (by decide) none none (nI 0) (fun y' => by rw [tp_bt_n0]; exact ⟨fun q => (by cases q), fun q => absurd q.1 (Nat.not_lt_zero _)⟩)
theorem mX1_goOnForEver {P : tp_P} (okP : tp_okP P) (a : tz_S) (hP : tp_has P a) (hin : ∀ i, i < 256 → ∀ y, tp_bt (a 6 i) y = true → i / 16 < P.1 ∧ y < 16) : tz_Mv IX1 yX1_goOnForEver cX1_goOnForEver 5 3 [] a (fun u => (∀ k, k ≠ 9 → u k = a k) ∧ tp_GF P (a 6) (u 9)) := by
  have hpL := okP.1
  refine tz_enterv (by decide) rfl (Nat.le_of_ble_eq_true rfl) (fun E C R => ?_)
  show tz_Z _ E 0 [some (.ref (tz_h E 0)), none, none, none, none] [] _
  refine tz_iconst (v := nI 0) C dX1_goOnForEver_0 (by decide) ?_
  refine tz_istore_1 C dX1_goOnForEver_1 ?_
  have body : ∀ u0 : tz_S, ((∀ k, k ≠ 9 → u0 k = a k) ∧ ∀ i, i < 256 → u0 9 i = a 6 i) → tz_Z IX1 E 27 [some (.ref (tz_h E 0)), some (.int (nI 256)), none, none, none] [] u0 := by
    intro u0 h0
    refine tz_iconst (v := nI 1) C dX1_goOnForEver_27 (by decide) ?_
    refine tz_istore_1 C dX1_goOnForEver_28 ?_
    refine tz_iconst (v := nI 0) C dX1_goOnForEver_29 (by decide) ?_
    refine tz_istore_2 C dX1_goOnForEver_30 ?_
    have loop : ∀ n, n ≤ 4097 → ∀ (o3 o4 : Option Value) (l : Prop) (u : tz_S), ((∀ k, k ≠ 9 → u k = a k) ∧ (∀ i, i < 256 → ∀ y, tp_bt (u 9 i) y = true → tp_bt (a 6 i) y = true) ∧ (∀ C : Nat → Nat → Prop, (∀ i y, C i y → ∃ i' y', tp_stp P i y i' y' ∧ C i' y') → (∀ i y, C i y → i < 256 ∧ tp_bt (a 6 i) y = true) → ∀ i y, C i y → i < 256 ∧ tp_bt (u 9 i) y = true) ∧ (l → tp_tot (fun i y => tp_bt (u 9 i) y) + n ≤ 4096) ∧ (¬ l → ∀ i, i < 256 → ∀ y, tp_bt (u 9 i) y = true → ∃ i' y', i' < 256 ∧ tp_stp P i y i' y' ∧ tp_bt (u 9 i') y' = true)) → tz_Z IX1 E 31 [some (.ref (tz_h E 0)), some (.int (tp_bz l)), some (.int (nI n)), o3, o4] [] u := by
      refine tz_upto 4097 (fun n hn ih => ?_)
      intro o3 o4 l u hu
      obtain ⟨u1, u2, u3, u4, u5⟩ := hu
      have fin : ¬ l → tp_GF P (a 6) (u 9) := fun q => ⟨u2, u5 q, u3⟩
      refine tz_iload_2 C dX1_goOnForEver_31 ?_
      refine tz_sipush (v := nI 4097) C dX1_goOnForEver_32 (by decide) ?_
      refine tz_icmp_ge_n (tgt := 93) C dX1_goOnForEver_35 (by decide) (fun c35 => ?_) (fun c35 => ?_)
      · have hl : ¬ l := fun q => by have := u4 q; omega
        exact R _ _ _ dX1_goOnForEver_93 (⟨u1, fin hl⟩)
      · skip
        refine tz_iload_1 C dX1_goOnForEver_38 ?_
        refine tz_if_eq (tgt := 93) C dX1_goOnForEver_39 (by decide) (fun c39 => ?_) (fun c39 => ?_)
        · skip
          exact R _ _ _ dX1_goOnForEver_93 (⟨u1, fin (tp_bz_0.mp c39)⟩)
        · have hl : l := Classical.byContradiction fun q => c39 (tp_bz_0.mpr q)
          refine tz_iconst (v := nI 0) C dX1_goOnForEver_42 (by decide) ?_
          refine tz_istore_1 C dX1_goOnForEver_43 ?_
          refine tz_iconst (v := nI 0) C dX1_goOnForEver_44 (by decide) ?_
          refine tz_istore_3 C dX1_goOnForEver_45 ?_
          have inner : ∀ i, i ≤ 256 → ∀ (o4 : Option Value) (b : Prop) (w : tz_S), ((∀ k, k ≠ 9 → w k = a k) ∧ tp_PR P (u 9) (w 9) b (fun i' => i' < i)) → tz_Z IX1 E 46 [some (.ref (tz_h E 0)), some (.int (tp_bz b)), some (.int (nI n)), some (.int (nI i)), o4] [] w := by
            refine tz_upto 256 (fun i hi ih2 => ?_)
            intro o4 b w hw
            obtain ⟨w1, w2⟩ := hw
            refine tz_iload_3 C dX1_goOnForEver_46 ?_
            refine tz_sipush (v := nI 256) C dX1_goOnForEver_47 (by decide) ?_
            refine tz_icmp_ge_n (tgt := 87) C dX1_goOnForEver_50 (by decide) (fun c50 => ?_) (fun c50 => ?_)
            · have hi256 : i = 256 := by omega
              subst hi256
              refine tz_iinc_2_n C dX1_goOnForEver_87 ?_
              refine tz_goto (tgt := 31) C dX1_goOnForEver_90 (by decide) ?_
              refine ih (by omega) _ _ b w ⟨w1, fun i hi y h => u2 i hi y (w2.1 i hi y h), fun C c1 c2 => w2.2.2.2 C c1 (u3 C c1 c2), fun q => ?_, fun q i hi y h => ?_⟩
              · obtain ⟨i, y, g1, g2, g3⟩ := w2.2.1 q
                have hy := (hin i g1 y (u2 i g1 y g2)).2
                have := tp_tot_strict (S := fun i y => tp_bt (w 9 i) y) (T := fun i y => tp_bt (u 9 i) y) (fun i hi y _ h => w2.1 i hi y h) ⟨i, y, g1, hy, by simpa using g3, g2⟩
                have := u4 hl
                omega
              · obtain ⟨g1, g2⟩ := w2.2.2.1 q
                rw [g1 i hi] at h
                obtain ⟨i', y', k1, k2, k3⟩ := g2 i hi hi y h
                exact ⟨i', y', k1, k2, by rw [g1 i' k1]; exact k3⟩
            · skip
              refine tz_aload_0 C dX1_goOnForEver_53 ?_
              refine tz_iload_3 C dX1_goOnForEver_54 ?_
              refine tz_call1 okX1 C vX1_kept (mX1_kept okP c50 w (tp_has_kept hP (fun k hk => w1 k (by omega))) (fun y h => hin i c50 y (u2 i c50 y (w2.1 i c50 y h)))) dX1_goOnForEver_55 (fun r v hv => ?_)
              obtain ⟨rfl, hr⟩ := hv
              have hrow : tp_PR P (v 9) (tz_sw v 9 i r 9) (¬ r = v 9 i) (fun i' => i' = i) := by
                have h1 := tp_PR_row (P := P) hpL (A := v 9) (B := tz_sw v 9 i r 9) (i0 := i) c50 (fun i' hi' => by rw [tz_sw_kn _ _ _ hi']) (fun y' => by rw [tz_sw_kj, hr y'])
                rwa [tz_sw_kj] at h1
              have hpr := tp_PR_comp w2 hrow
              have hQ : ∀ i', i' < i + 1 → (i' < i ∨ i' = i) := fun i' h => by omega
              refine tz_istore_4 C dX1_goOnForEver_58 ?_
              refine tz_iload_4 C dX1_goOnForEver_60 ?_
              refine tz_aload_0 C dX1_goOnForEver_62 ?_
              refine tz_getA okX1 C 9 dX1_goOnForEver_63 rfl q235 ?_
              refine tz_iload_3 C dX1_goOnForEver_66 ?_
              refine tz_iald okX1 C dX1_goOnForEver_67 rfl ?_
              refine tz_icmp_eq (tgt := 81) C dX1_goOnForEver_68 (by decide) (fun c68 => ?_) (fun c68 => ?_)
              · have e9 : tz_sw v 9 i r 9 = v 9 := by
                  funext j
                  rw [tz_sw_at]
                  by_cases h : j = i
                  · rw [if_pos h, h, c68]
                  · rw [if_neg h]
                rw [e9] at hpr
                refine tz_iinc_3_n C dX1_goOnForEver_81 ?_
                refine tz_goto (tgt := 46) C dX1_goOnForEver_84 (by decide) ?_
                exact ih2 c50 _ b v ⟨w1, tp_PR_cg hpr ⟨fun q => q.elim id (fun q => absurd c68 q), Or.inl⟩ hQ⟩
              · skip
                refine tz_aload_0 C dX1_goOnForEver_71 ?_
                refine tz_getA okX1 C 9 dX1_goOnForEver_72 rfl q235 ?_
                refine tz_iload_3 C dX1_goOnForEver_75 ?_
                refine tz_iload_4 C dX1_goOnForEver_76 ?_
                refine tz_iast okX1 C dX1_goOnForEver_78 rfl ?_
                refine tz_iconst (v := nI 1) C dX1_goOnForEver_79 (by decide) ?_
                refine tz_istore_1 C dX1_goOnForEver_80 ?_
                refine tz_iinc_3_n C dX1_goOnForEver_81 ?_
                refine tz_goto (tgt := 46) C dX1_goOnForEver_84 (by decide) ?_
                have hl1 : tp_bz (b ∨ ¬ r = v 9 i) = nI 1 := tp_bz_t (Or.inr c68)
                have := ih2 c50 (some (.int r)) _ (tz_sw v 9 i r) ⟨fun k hk => by rw [tz_sw_o _ _ _ hk]; exact w1 k hk, tp_PR_cg hpr Iff.rfl hQ⟩
                rw [hl1] at this
                exact this
          have := inner 0 (by decide) o4 False u ⟨u1, tp_PR_cg (tp_PR_refl P (u 9)) Iff.rfl (fun i h => absurd h (Nat.not_lt_zero _))⟩
          rw [tp_bz_f (c := False) id] at this
          exact this
    have := loop 0 (by decide) none none True u0 ⟨h0.1, fun i hi y h => by rw [← h0.2 i hi]; exact h, fun C c1 c2 i y h => ⟨(c2 i y h).1, by rw [h0.2 i (c2 i y h).1]; exact (c2 i y h).2⟩, fun _ => Nat.le_trans (Nat.le_of_eq (Nat.add_zero _)) (tp_tot_le _), fun q => absurd trivial q⟩
    rw [tp_bz_t (c := True) trivial] at this
    exact this
  have loop : ∀ i, i ≤ 256 → ∀ u : tz_S, ((∀ k, k ≠ 9 → u k = a k) ∧ ∀ i', i' < i → u 9 i' = a 6 i') → tz_Z IX1 E 2 [some (.ref (tz_h E 0)), some (.int (nI i)), none, none, none] [] u := by
    refine tz_upto 256 (fun i hi ih => ?_)
    intro u hu
    refine tz_iload_1 C dX1_goOnForEver_2 ?_
    refine tz_sipush (v := nI 256) C dX1_goOnForEver_3 (by decide) ?_
    refine tz_icmp_ge_n (tgt := 27) C dX1_goOnForEver_6 (by decide) (fun c6 => ?_) (fun c6 => ?_)
    · have hi256 : i = 256 := by omega
      subst hi256
      exact body u hu
    · skip
      refine tz_aload_0 C dX1_goOnForEver_9 ?_
      refine tz_getA okX1 C 9 dX1_goOnForEver_10 rfl q235 ?_
      refine tz_iload_1 C dX1_goOnForEver_13 ?_
      refine tz_aload_0 C dX1_goOnForEver_14 ?_
      refine tz_getA okX1 C 6 dX1_goOnForEver_15 rfl q232 ?_
      refine tz_iload_1 C dX1_goOnForEver_18 ?_
      refine tz_iald okX1 C dX1_goOnForEver_19 rfl ?_
      refine tz_iast okX1 C dX1_goOnForEver_20 rfl ?_
      refine tz_iinc_1_n C dX1_goOnForEver_21 ?_
      refine tz_goto (tgt := 2) C dX1_goOnForEver_24 (by decide) ?_
      refine ih c6 _ ⟨fun k hk => by rw [tz_sw_o _ _ _ hk]; exact hu.1 k hk, fun i' hi' => ?_⟩
      rw [tz_sw_at]
      by_cases h : i' = i
      · rw [if_pos h, h, hu.1 6 (by decide)]
      · rw [if_neg h]; exact hu.2 i' (by omega)
  exact loop 0 (by decide) a ⟨fun _ _ => rfl, fun i' hi' => absurd hi' (Nat.not_lt_zero _)⟩
end
section
/-! TrapProverModel: workOut -/
set_option maxRecDepth 100000
/-- TrapProverModel's fields hold the program P, and what is worked out if it says so -/
def tp_R1 (P : tp_P) (a : tz_S) : Prop := tp_has P a ∧ a 5 0 = nI 1 ∧ tp_Done P (a 6) (a 9) (a 10) (a 12 0) ∧ ∀ p, p < 16 → a 11 p = nI (tp_cT P (a 6) p)
def tp_V1 (P : tp_P) (a : tz_S) : Prop := tp_has P a ∧ ∃ rd : Prop, a 5 0 = tp_bz rd ∧ (rd → tp_Done P (a 6) (a 9) (a 10) (a 12 0) ∧ ∀ p, p < 16 → a 11 p = nI (tp_cT P (a 6) p))
theorem tp_R1_V1 {P : tp_P} {a : tz_S} (h : tp_R1 P a) : tp_V1 P a := ⟨h.1, True, h.2.1.trans (tp_bz_t trivial).symm, fun _ => h.2.2⟩
theorem tp_V1_has {P : tp_P} {a : tz_S} (h : tp_has P a) (h5 : a 5 0 = nI 0) : tp_V1 P a := ⟨h, False, h5.trans (tp_bz_f id).symm, fun q => q.elim⟩
theorem tp_cT_or {P : tp_P} {f g h : Nat → Int32} {p : Nat} (hp : p < 16) (hd : ∀ i, i < 256 → ∀ y, ¬ (tp_bt (f i) y = true ∧ tp_bt (g i) y = true)) (hh : ∀ i, i < 256 → h i = f i ||| g i) : tp_cT P h p = tp_cT P f p + tp_cT P g p := by
  refine tp_sm_add 16 (fun x hx => tp_cn_add 16 (fun y hy => ?_) (fun y hy => ?_))
  · rw [hh (p * 16 + x) (by omega), tp_bt_or, Bool.and_or_distrib_right]
  · rintro ⟨h1, h2⟩
    rw [Bool.and_eq_true] at h1 h2
    exact hd (p * 16 + x) (by omega) y ⟨h1.1, h2.1⟩
theorem tp_cT_0 {P : tp_P} {f : Nat → Int32} {p : Nat} (hp : p < 16) (hd : ∀ i, i < 256 → ∀ y, ¬ tp_bt (f i) y = true) : tp_cT P f p = 0 := by
  refine tp_sm_0 16 (fun x hx => tp_cn_none 16 (fun y hy => ?_))
  have : tp_bt (f (p * 16 + x)) y = false := by simpa using hd (p * 16 + x) (by omega) y
  rw [this, Bool.false_and]
theorem mX1_workOut {P : tp_P} (okP : tp_okP P) (a : tz_S) (hV : tp_V1 P a) : tz_Mv IX1 yX1_workOut cX1_workOut 3 4 [] a (tp_R1 P) := by
  obtain ⟨hP, rd, h5, hdone⟩ := hV
  have okL := okP.1
  obtain ⟨ok01, ok02⟩ := okP.2.2 0
  obtain ⟨ok11, ok12⟩ := okP.2.2 1
  refine tz_enterv (by decide) rfl (Nat.le_of_ble_eq_true rfl) (fun E C R => ?_)
  show tz_Z _ E 0 [some (.ref (tz_h E 0)), none, none] [] _
  refine tz_aload_0 C dX1_workOut_0 ?_
  refine tz_getI okX1 C 5 dX1_workOut_1 rfl (by decide) q231 ?_
  refine tz_top (h5) ?_
  rcases tp_bz_or rd with ⟨hr, hz⟩ | ⟨hr, hz⟩
  · rw [hz]
    refine tz_if_eq (tgt := 8) C dX1_workOut_4 (by decide) (fun c4 => ?_) (fun c4 => ?_)
    · exact absurd c4 tp_n10
    · skip
      exact R _ _ _ dX1_workOut_7 (⟨hP, h5.trans hz, hdone hr⟩)
  · rw [hz]
    refine tz_if_eq (tgt := 8) C dX1_workOut_4 (by decide) (fun c4 => ?_) (fun c4 => ?_)
    · skip
      refine tz_aload_0 C dX1_workOut_8 ?_
      refine tz_iconst (v := nI 1) C dX1_workOut_9 (by decide) ?_
      refine tz_putI okX1 C 5 dX1_workOut_10 rfl (by decide) q231 (by first | rfl | decide) (by first | rfl | decide) ?_
      refine tz_aload_0 C dX1_workOut_13 ?_
      refine tz_iconst (v := nI 0) C dX1_workOut_14 (by decide) ?_
      refine tz_putI okX1 C 12 dX1_workOut_15 rfl (by decide) q238 (by first | rfl | decide) (by first | rfl | decide) ?_
      refine tz_iconst (v := nI 0) C dX1_workOut_18 (by decide) ?_
      refine tz_istore_1 C dX1_workOut_19 ?_
      have loop5 : ∀ n, n ≤ 4096 → ∀ (u : tz_S), ((∀ k, k ≤ 4 → u k = a k) ∧ u 5 0 = nI 1 ∧ tp_LV P n (u 6) (u 7) (u 10) ∧ tp_CT P n (u 6) ∧ u 12 0 = tp_bz (∃ j i y, j < n ∧ tp_F P j i y ∧ tp_enp P i y) ∧ ∃ tv : Nat → Nat, ∀ p, p < 16 → u 11 p = nI (tv p) ∧ tv p + tp_cT P (u 7) p = tp_cT P (u 6) p) → tz_Z IX1 E 153 [some (.ref (tz_h E 0)), some (.int (tp_bz (∃ i y, tp_F P n i y))), some (.int (nI (n + 1)))] [] u := by
        refine tz_upto 4096 (fun n hn ih => ?_)
        intro u hu
        obtain ⟨u1, u2, u3, u4, u5, tv, u6⟩ := hu
        have hPu : tp_has P u := tp_has_kept hP u1
        have fin : (∀ i y, ¬ tp_F P n i y) → ∀ o1 o2 : Option Value, tz_Z IX1 E 180 [some (.ref (tz_h E 0)), o1, o2] [] u := by
          intro he o1 o2
          refine tz_aload_0 C dX1_workOut_180 ?_
          refine tz_callv0 okX1 C vX1_goOnForEver (mX1_goOnForEver okP u hPu (fun i hi y h => by have := tp_H_in okP ((u3.1 i hi y).mp h); exact ⟨this.1, this.2.2⟩)) dX1_workOut_181 (fun w hw => ?_)
          refine R _ _ _ dX1_workOut_184 ⟨tp_has_kept hPu (fun k hk => hw.1 k (by omega)), by rw [hw.1 5 (by decide)]; exact u2, ?_, fun p hp => ?_⟩
          · rw [hw.1 6 (by decide), hw.1 10 (by decide), hw.1 12 (by decide)]
            exact tp_Done_of hn u3 he hw.2 u5
          · rw [hw.1 11 (by decide), hw.1 6 (by decide)]
            obtain ⟨g1, g2⟩ := u6 p hp
            rw [tp_cT_0 (P := P) (f := u 7) hp (fun i hi y h => he i y ((u3.2.1 i hi y).mp h))] at g2
            rw [g1, ← g2, Nat.add_zero]
        refine tz_iload_2 C dX1_workOut_153 ?_
        refine tz_sipush (v := nI 4097) C dX1_workOut_154 (by decide) ?_
        refine tz_icmp_gt_n (tgt := 180) C dX1_workOut_157 (by decide) (fun c157 => ?_) (fun c157 => ?_)
        · exact fin (tp_CT_end u4 (by omega)) _ _
        · skip
          refine tz_iload_1 C dX1_workOut_160 ?_
          refine tz_if_eq (tgt := 180) C dX1_workOut_161 (by decide) (fun c161 => ?_) (fun c161 => ?_)
          · exact fin (fun i y q => tp_bz_0.mp c161 ⟨i, y, q⟩) _ _
          · have hne : ∃ i y, tp_F P n i y := Classical.byContradiction fun q => c161 (tp_bz_0.mpr q)
            have hn1 : n < 4096 := by
              rcases Nat.lt_or_ge n 4096 with q | q
              · exact q
              · obtain ⟨i, y, h⟩ := hne
                exact absurd h (tp_CT_end u4 q i y)
            refine tz_aload_0 C dX1_workOut_164 ?_
            refine tz_callv0 okX1 C vX1_round (mX1_round okP u hPu _ u5 tv (fun p hp => (u6 p hp).1) (fun i hi y h => by have := tp_F_in okP ((u3.2.1 i hi y).mp h); exact ⟨this.1, this.2.2⟩)) dX1_workOut_165 (fun v hv => ?_)
            obtain ⟨v1, v2, v3, v4⟩ := hv
            refine tz_aload_0 C dX1_workOut_168 ?_
            refine tz_iload_2 C dX1_workOut_169 ?_
            refine tz_call1 okX1 C vX1_take (mX1_take (lv := n + 1) (by omega) v) dX1_workOut_170 (fun r w hw => ?_)
            obtain ⟨w1, w2, w3, hr⟩ := hw
            have v6 : v 6 = u 6 := v1 6 (by decide) (by decide) (by decide)
            have v10 : v 10 = u 10 := v1 10 (by decide) (by decide) (by decide)
            have hnw : ∀ i, i < 256 → ∀ y, tp_bt (v 8 i) y = true ↔ tp_F P (n + 1) i y := fun i hi y => by
              rw [v2 i hi y, u3.1 i hi y]
              constructor
              · rintro ⟨h1, i0, y0, g1, g2, g3⟩
                exact ⟨⟨i0, y0, (u3.2.1 i0 g1 y0).mp g2, g3⟩, h1⟩
              · rintro ⟨⟨i0, y0, g2, g3⟩, h1⟩
                have g1 := (tp_F_in okP g2).2.1
                exact ⟨h1, i0, y0, g1, (u3.2.1 i0 g1 y0).mpr g2, g3⟩
            have hLV : tp_LV P (n + 1) (w 6) (w 7) (w 10) := tp_LV_settle okP (by omega) (hv := v 6) (nw := v 8) (fs := v 10) hnw (fun i hi y => by
              rw [v6, u3.1 i hi y]; exact Iff.rfl) w2 (fun p hp => by rw [v10]; exact u3.2.2 p hp) w3
            have hCT : tp_CT P (n + 1) (w 6) := tp_CT_step okP u4 hne u3.1 hLV.1
            rw [tp_new_bz okP hnw] at hr
            subst hr
            refine tz_istore_1 C dX1_workOut_173 ?_
            refine tz_iinc_2_n C dX1_workOut_174 ?_
            refine tz_goto (tgt := 153) C dX1_workOut_177 (by decide) ?_
            refine ih hn1 w ⟨fun k hk => ?_, ?_, hLV, hCT, ?_, fun p => tp_cT P (u 6) p, fun p hp => ⟨?_, ?_⟩⟩
            · rw [w1 k (by omega) (by omega) (by omega), v1 k (by omega) (by omega) (by omega)]; exact u1 k hk
            · rw [w1 5 (by decide) (by decide) (by decide), v1 5 (by decide) (by decide) (by decide)]; exact u2
            · rw [w1 12 (by decide) (by decide) (by decide), v4]
              refine tp_bz_cg ⟨?_, ?_⟩
              · rintro (⟨j, i, y, g1, g2⟩ | ⟨i, y, g1, g2, g3⟩)
                · exact ⟨j, i, y, by omega, g2⟩
                · exact ⟨n, i, y, by omega, (u3.2.1 i g1 y).mp g2, g3⟩
              · rintro ⟨j, i, y, g1, g2, g3⟩
                rcases Nat.lt_or_ge j n with q | q
                · exact Or.inl ⟨j, i, y, q, g2, g3⟩
                · have : j = n := by omega
                  subst this
                  have := (tp_F_in okP g2).2.1
                  exact Or.inr ⟨i, y, this, (u3.2.1 i this y).mpr g2, g3⟩
            · rw [w1 11 (by decide) (by decide) (by decide), v3 p hp, (u6 p hp).2]
            · refine (tp_cT_or (P := P) (f := u 6) (g := w 7) (h := w 6) hp (fun i hi y h => ?_) (fun i hi => ?_)).symm
              · rw [(w2 i hi).1] at h
                exact ((v2 i hi y).mp h.2).1 h.1
              · rw [(w2 i hi).1, (w2 i hi).2, v6]
      have t145 : ∀ (o1 o2 : Option Value) (u : tz_S), ((∀ k, k ≤ 4 → u k = a k) ∧ u 5 0 = nI 1 ∧ u 12 0 = nI 0 ∧ (∀ i, i < 256 → u 6 i = nI 0) ∧ (∀ p, p < 16 → u 10 p = -5 ∧ u 11 p = nI 0) ∧ ∀ i, i < 256 → ∀ y, tp_bt (u 8 i) y = true ↔ tp_ini P i y) → tz_Z IX1 E 145 [some (.ref (tz_h E 0)), o1, o2] [] u := by
        intro o1 o2 u hu
        obtain ⟨u1, u2, u3, u4, u5, u6⟩ := hu
        refine tz_aload_0 C dX1_workOut_145 ?_
        refine tz_iconst (v := nI 0) C dX1_workOut_146 (by decide) ?_
        refine tz_call1 okX1 C vX1_take (mX1_take (lv := 0) (by omega) u) dX1_workOut_147 (fun r w hw => ?_)
        obtain ⟨w1, w2, w3, hr⟩ := hw
        have hnw : ∀ i, i < 256 → ∀ y, tp_bt (u 8 i) y = true ↔ tp_F P 0 i y := fun i hi y => u6 i hi y
        have hLV : tp_LV P 0 (w 6) (w 7) (w 10) := tp_LV_settle okP (by omega) (hv := u 6) (nw := u 8) (fs := u 10) hnw (fun i hi y => by
          rw [u4 i hi, tp_bt_n0]; simp; exact Iff.rfl) w2 (fun p hp => by rw [(u5 p hp).1]; exact tp_FS_0 P p) w3
        rw [tp_new_bz okP hnw] at hr
        subst hr
        refine tz_istore_1 C dX1_workOut_150 ?_
        refine tz_iconst (v := nI 1) C dX1_workOut_151 (by decide) ?_
        refine tz_istore_2 C dX1_workOut_152 ?_
        refine loop5 0 (by decide) w ⟨fun k hk => ?_, ?_, hLV, tp_CT_0 okP hLV.1, ?_, fun _ => 0, fun p hp => ⟨?_, ?_⟩⟩
        · rw [w1 k (by omega) (by omega) (by omega)]; exact u1 k hk
        · rw [w1 5 (by decide) (by decide) (by decide)]; exact u2
        · rw [w1 12 (by decide) (by decide) (by decide), u3]
          exact (tp_bz_f (fun ⟨j, i, y, g, _⟩ => absurd g (Nat.not_lt_zero _))).symm
        · rw [w1 11 (by decide) (by decide) (by decide)]; exact (u5 p hp).2
        · rw [Nat.zero_add]
          refine tp_cT_cg hp (fun i hi => ?_)
          rw [(w2 i hi).1, (w2 i hi).2, u4 i hi]
          apply tp_bt_ext
          intro y
          rw [tp_bt_or, tp_bt_n0, Bool.false_or]
      have t76 : ∀ (o1 : Option Value) (u : tz_S), ((∀ k, k ≤ 4 → u k = a k) ∧ u 5 0 = nI 1 ∧ u 12 0 = nI 0 ∧ (∀ i, i < 256 → u 6 i = nI 0) ∧ (∀ p, p < 16 → u 10 p = -5 ∧ u 11 p = nI 0) ∧ (∀ i, i < 256 → u 8 i = nI 0)) → tz_Z IX1 E 76 [some (.ref (tz_h E 0)), o1, none] [] u := by
        intro o1 u hu
        obtain ⟨u1, u2, u3, u4, u5, u6⟩ := hu
        have l0 : u 3 0 = nI (P.2.2.2.1 0) := by rw [u1 3 (by decide)]; exact hP.2.2.2.1 0
        refine tz_aload_0 C dX1_workOut_76 ?_
        refine tz_getA okX1 C 3 dX1_workOut_77 rfl q229 ?_
        refine tz_iconst (v := nI 0) C dX1_workOut_80 (by decide) ?_
        refine tz_iald okX1 C dX1_workOut_81 rfl ?_
        refine tz_top (l0) ?_
        refine tz_istore_1 C dX1_workOut_82 ?_
        have loop : ∀ x, x ≤ P.2.2.2.2 0 + 1 → P.2.2.2.1 0 ≤ x → ∀ (o2 : Option Value) (u : tz_S), ((∀ k, k ≤ 4 → u k = a k) ∧ u 5 0 = nI 1 ∧ u 12 0 = nI 0 ∧ (∀ i, i < 256 → u 6 i = nI 0) ∧ (∀ p, p < 16 → u 10 p = -5 ∧ u 11 p = nI 0) ∧ (∀ i, i < 256 → ∀ y, tp_bt (u 8 i) y = true ↔ 0 < P.1 ∧ P.2.2.2.1 0 ≤ i ∧ i < x ∧ P.2.2.2.1 1 ≤ y ∧ y ≤ P.2.2.2.2 1)) → tz_Z IX1 E 83 [some (.ref (tz_h E 0)), some (.int (nI x)), o2] [] u := by
          refine tz_upto (P.2.2.2.2 0 + 1) (fun x hx ih => ?_)
          intro hlx o2 u hu
          obtain ⟨u1, u2, u3, u4, u5, u6⟩ := hu
          have h4 : u 4 0 = nI (P.2.2.2.2 0) := by rw [u1 4 (by decide)]; exact hP.2.2.2.2 0
          have l1 : u 3 1 = nI (P.2.2.2.1 1) := by rw [u1 3 (by decide)]; exact hP.2.2.2.1 1
          refine tz_iload_1 C dX1_workOut_83 ?_
          refine tz_aload_0 C dX1_workOut_84 ?_
          refine tz_getA okX1 C 4 dX1_workOut_85 rfl q230 ?_
          refine tz_iconst (v := nI 0) C dX1_workOut_88 (by decide) ?_
          refine tz_iald okX1 C dX1_workOut_89 rfl ?_
          refine tz_top (h4) ?_
          refine tz_icmp_gt_n (tgt := 145) C dX1_workOut_90 (by decide) (fun c90 => ?_) (fun c90 => ?_)
          · refine t145 _ _ u ⟨u1, u2, u3, u4, u5, fun i hi y => (u6 i hi y).trans ?_⟩
            unfold tp_ini
            constructor
            · rintro ⟨g1, g2, g3, g4, g5⟩; exact ⟨g1, g2, by omega, g4, g5⟩
            · rintro ⟨g1, g2, g3, g4, g5⟩; exact ⟨g1, g2, by omega, g4, g5⟩
          · skip
            refine tz_aload_0 C dX1_workOut_93 ?_
            refine tz_getA okX1 C 3 dX1_workOut_94 rfl q229 ?_
            refine tz_iconst (v := nI 1) C dX1_workOut_97 (by decide) ?_
            refine tz_iald okX1 C dX1_workOut_98 rfl ?_
            refine tz_top (l1) ?_
            refine tz_istore_2 C dX1_workOut_99 ?_
            have inner : ∀ y, y ≤ P.2.2.2.2 1 + 1 → P.2.2.2.1 1 ≤ y → ∀ (u : tz_S), ((∀ k, k ≤ 4 → u k = a k) ∧ u 5 0 = nI 1 ∧ u 12 0 = nI 0 ∧ (∀ i, i < 256 → u 6 i = nI 0) ∧ (∀ p, p < 16 → u 10 p = -5 ∧ u 11 p = nI 0) ∧ (∀ i, i < 256 → ∀ z, tp_bt (u 8 i) z = true ↔ 0 < P.1 ∧ P.2.2.2.1 0 ≤ i ∧ ((i < x ∧ P.2.2.2.1 1 ≤ z ∧ z ≤ P.2.2.2.2 1) ∨ (i = x ∧ P.2.2.2.1 1 ≤ z ∧ z < y)))) → tz_Z IX1 E 100 [some (.ref (tz_h E 0)), some (.int (nI x)), some (.int (nI y))] [] u := by
              refine tz_upto (P.2.2.2.2 1 + 1) (fun y hy ih2 => ?_)
              intro hly u hu
              obtain ⟨u1, u2, u3, u4, u5, u6⟩ := hu
              have h4 : u 4 1 = nI (P.2.2.2.2 1) := by rw [u1 4 (by decide)]; exact hP.2.2.2.2 1
              have h0 : u 0 0 = nI P.1 := by rw [u1 0 (by decide)]; exact hP.1
              refine tz_iload_2 C dX1_workOut_100 ?_
              refine tz_aload_0 C dX1_workOut_101 ?_
              refine tz_getA okX1 C 4 dX1_workOut_102 rfl q230 ?_
              refine tz_iconst (v := nI 1) C dX1_workOut_105 (by decide) ?_
              refine tz_iald okX1 C dX1_workOut_106 rfl ?_
              refine tz_top (h4) ?_
              refine tz_icmp_gt_n (tgt := 139) C dX1_workOut_107 (by decide) (fun c107 => ?_) (fun c107 => ?_)
              · skip
                refine tz_iinc_1_n C dX1_workOut_139 ?_
                refine tz_goto (tgt := 83) C dX1_workOut_142 (by decide) ?_
                refine ih (by omega) (by omega) _ u ⟨u1, u2, u3, u4, u5, fun i hi z => (u6 i hi z).trans (and_congr Iff.rfl ⟨?_, ?_⟩)⟩
                · rintro ⟨g1, ⟨g2, g3, g4⟩ | ⟨g2, g3, g4⟩⟩
                  · exact ⟨g1, by omega, g3, g4⟩
                  · exact ⟨g1, by omega, g3, by omega⟩
                · rintro ⟨g1, g2, g3, g4⟩
                  refine ⟨g1, ?_⟩
                  omega
              · skip
                refine tz_aload_0 C dX1_workOut_110 ?_
                refine tz_getI okX1 C 0 dX1_workOut_111 rfl (by decide) q226 ?_
                refine tz_top (h0) ?_
                refine tz_if_le (tgt := 133) C dX1_workOut_114 (by decide) (fun c114 => ?_) (fun c114 => ?_)
                · have hL0 : P.1 = 0 := by
                    rcases Nat.eq_zero_or_pos P.1 with q | q
                    · exact q
                    · exact absurd c114 (nI_nle q (by omega))
                  refine tz_iinc_2_n C dX1_workOut_133 ?_
                  refine tz_goto (tgt := 100) C dX1_workOut_136 (by decide) ?_
                  refine ih2 (by omega) (by omega) u ⟨u1, u2, u3, u4, u5, fun i hi z => (u6 i hi z).trans ?_⟩
                  exact ⟨fun q => absurd q.1 (by omega), fun q => absurd q.1 (by omega)⟩
                · have hL0 : 0 < P.1 := by
                    rcases Nat.eq_zero_or_pos P.1 with q | q
                    · rw [q] at c114; exact absurd (by decide) c114
                    · exact q
                  refine tz_aload_0 C dX1_workOut_117 ?_
                  refine tz_getA okX1 C 8 dX1_workOut_118 rfl q234 ?_
                  refine tz_iload_1 C dX1_workOut_121 ?_
                  refine tz_aload_0 C dX1_workOut_122 ?_
                  refine tz_getA okX1 C 8 dX1_workOut_123 rfl q234 ?_
                  refine tz_iload_1 C dX1_workOut_126 ?_
                  refine tz_iald okX1 C dX1_workOut_127 rfl ?_
                  refine tz_iconst (v := nI 1) C dX1_workOut_128 (by decide) ?_
                  refine tz_iload_2 C dX1_workOut_129 ?_
                  refine tz_ishl C dX1_workOut_130 ?_
                  refine tz_ior C dX1_workOut_131 ?_
                  refine tz_iast okX1 C dX1_workOut_132 rfl ?_
                  refine tz_iinc_2_n C dX1_workOut_133 ?_
                  refine tz_goto (tgt := 100) C dX1_workOut_136 (by decide) ?_
                  refine ih2 (by omega) (by omega) _ ⟨fun k hk => by rw [tz_sw_o _ _ _ (by omega)]; exact u1 k hk, by rw [tz_sw_o _ _ _ (by decide)]; exact u2, by rw [tz_sw_o _ _ _ (by decide)]; exact u3, fun i hi => by rw [tz_sw_o _ _ _ (by decide)]; exact u4 i hi, fun p hp => by rw [tz_sw_o _ _ _ (by decide), tz_sw_o _ _ _ (by decide)]; exact u5 p hp, fun i hi z => ?_⟩
                  rw [tz_or1 _ _ _ (by omega), u6 i hi z]
                  omega
            refine inner _ (by omega) (Nat.le_refl _) u ⟨u1, u2, u3, u4, u5, fun i hi z => (u6 i hi z).trans ?_⟩
            omega
        refine loop _ (by omega) (Nat.le_refl _) none u ⟨u1, u2, u3, u4, u5, fun i hi y => ?_⟩
        rw [u6 i hi, tp_bt_n0]
        exact ⟨fun q => (by cases q), fun ⟨_, g1, g2, _⟩ => absurd g1 (by omega)⟩
      have t47 : ∀ (o1 : Option Value) (u : tz_S), ((∀ k, k ≤ 4 → u k = a k) ∧ u 5 0 = nI 1 ∧ u 12 0 = nI 0 ∧ (∀ i, i < 256 → u 6 i = nI 0) ∧ (∀ i, i < 256 → u 8 i = nI 0)) → tz_Z IX1 E 47 [some (.ref (tz_h E 0)), o1, none] [] u := by
        intro o1 u hu
        refine tz_iconst (v := nI 0) C dX1_workOut_47 (by decide) ?_
        refine tz_istore_1 C dX1_workOut_48 ?_
        have loop : ∀ p, p ≤ 16 → ∀ u : tz_S, ((∀ k, k ≤ 4 → u k = a k) ∧ u 5 0 = nI 1 ∧ u 12 0 = nI 0 ∧ (∀ i, i < 256 → u 6 i = nI 0) ∧ (∀ i, i < 256 → u 8 i = nI 0) ∧ ∀ p', p' < p → u 10 p' = -5 ∧ u 11 p' = nI 0) → tz_Z IX1 E 49 [some (.ref (tz_h E 0)), some (.int (nI p)), none] [] u := by
          refine tz_upto 16 (fun p hp ih => ?_)
          intro u hu
          obtain ⟨u1, u2, u3, u4, u5, u6⟩ := hu
          refine tz_iload_1 C dX1_workOut_49 ?_
          refine tz_bipush (v := nI 16) C dX1_workOut_50 (by decide) ?_
          refine tz_icmp_ge_n (tgt := 76) C dX1_workOut_52 (by decide) (fun c52 => ?_) (fun c52 => ?_)
          · exact t76 _ u ⟨u1, u2, u3, u4, fun p' hp' => u6 p' (by omega), u5⟩
          · skip
            refine tz_aload_0 C dX1_workOut_55 ?_
            refine tz_getA okX1 C 10 dX1_workOut_56 rfl q236 ?_
            refine tz_iload_1 C dX1_workOut_59 ?_
            refine tz_bipush (v := -5) C dX1_workOut_60 (by decide) ?_
            refine tz_iast okX1 C dX1_workOut_62 rfl ?_
            refine tz_aload_0 C dX1_workOut_63 ?_
            refine tz_getA okX1 C 11 dX1_workOut_64 rfl q237 ?_
            refine tz_iload_1 C dX1_workOut_67 ?_
            refine tz_iconst (v := nI 0) C dX1_workOut_68 (by decide) ?_
            refine tz_iast okX1 C dX1_workOut_69 rfl ?_
            refine tz_iinc_1_n C dX1_workOut_70 ?_
            refine tz_goto (tgt := 49) C dX1_workOut_73 (by decide) ?_
            refine ih c52 _ ⟨fun k hk => by rw [tz_sw_o _ _ _ (by omega), tz_sw_o _ _ _ (by omega)]; exact u1 k hk, by rw [tz_sw_o _ _ _ (by decide), tz_sw_o _ _ _ (by decide)]; exact u2, by rw [tz_sw_o _ _ _ (by decide), tz_sw_o _ _ _ (by decide)]; exact u3, fun i hi => by rw [tz_sw_o _ _ _ (by decide), tz_sw_o _ _ _ (by decide)]; exact u4 i hi, fun i hi => by rw [tz_sw_o _ _ _ (by decide), tz_sw_o _ _ _ (by decide)]; exact u5 i hi, fun p' hp' => ⟨?_, ?_⟩⟩
            · rw [tz_sw_o _ _ _ (by decide), tz_sw_at]
              by_cases h : p' = p
              · rw [if_pos h]
              · rw [if_neg h]; exact (u6 p' (by omega)).1
            · rw [tz_sw_at, tz_sw_o _ _ _ (by decide)]
              by_cases h : p' = p
              · rw [if_pos h]
              · rw [if_neg h]; exact (u6 p' (by omega)).2
        exact loop 0 (by decide) u ⟨hu.1, hu.2.1, hu.2.2.1, hu.2.2.2.1, hu.2.2.2.2, fun p' hp' => absurd hp' (Nat.not_lt_zero _)⟩
      have loop : ∀ i, i ≤ 256 → ∀ u : tz_S, ((∀ k, k ≤ 4 → u k = a k) ∧ u 5 0 = nI 1 ∧ u 12 0 = nI 0 ∧ (∀ i', i' < i → u 6 i' = nI 0) ∧ (∀ i', i' < i → u 8 i' = nI 0)) → tz_Z IX1 E 20 [some (.ref (tz_h E 0)), some (.int (nI i)), none] [] u := by
        refine tz_upto 256 (fun i hi ih => ?_)
        intro u hu
        obtain ⟨u1, u2, u3, u4, u5⟩ := hu
        refine tz_iload_1 C dX1_workOut_20 ?_
        refine tz_sipush (v := nI 256) C dX1_workOut_21 (by decide) ?_
        refine tz_icmp_ge_n (tgt := 47) C dX1_workOut_24 (by decide) (fun c24 => ?_) (fun c24 => ?_)
        · exact t47 _ u ⟨u1, u2, u3, fun i' hi' => u4 i' (by omega), fun i' hi' => u5 i' (by omega)⟩
        · skip
          refine tz_aload_0 C dX1_workOut_27 ?_
          refine tz_getA okX1 C 6 dX1_workOut_28 rfl q232 ?_
          refine tz_iload_1 C dX1_workOut_31 ?_
          refine tz_iconst (v := nI 0) C dX1_workOut_32 (by decide) ?_
          refine tz_iast okX1 C dX1_workOut_33 rfl ?_
          refine tz_aload_0 C dX1_workOut_34 ?_
          refine tz_getA okX1 C 8 dX1_workOut_35 rfl q234 ?_
          refine tz_iload_1 C dX1_workOut_38 ?_
          refine tz_iconst (v := nI 0) C dX1_workOut_39 (by decide) ?_
          refine tz_iast okX1 C dX1_workOut_40 rfl ?_
          refine tz_iinc_1_n C dX1_workOut_41 ?_
          refine tz_goto (tgt := 20) C dX1_workOut_44 (by decide) ?_
          refine ih c24 _ ⟨fun k hk => by rw [tz_sw_o _ _ _ (by omega), tz_sw_o _ _ _ (by omega)]; exact u1 k hk, by rw [tz_sw_o _ _ _ (by decide), tz_sw_o _ _ _ (by decide)]; exact u2, by rw [tz_sw_o _ _ _ (by decide), tz_sw_o _ _ _ (by decide)]; exact u3, fun i' hi' => ?_, fun i' hi' => ?_⟩
          · rw [tz_sw_o _ _ _ (by decide), tz_sw_at]
            by_cases h : i' = i
            · rw [if_pos h]
            · rw [if_neg h]; exact u4 i' (by omega)
          · rw [tz_sw_at, tz_sw_o _ _ _ (by decide)]
            by_cases h : i' = i
            · rw [if_pos h]
            · rw [if_neg h]; exact u5 i' (by omega)
      exact loop 0 (by decide) _ ⟨fun k hk => by rw [tz_sw_o _ _ _ (by omega), tz_sw_o _ _ _ (by omega)], by rw [tz_sw_o _ _ _ (by decide), tz_sw_kj], by rw [tz_sw_kj], fun i' hi' => absurd hi' (Nat.not_lt_zero _), fun i' hi' => absurd hi' (Nat.not_lt_zero _)⟩
    · exact absurd nI_0 c4
end
section
/-! TrapProverModel: what the law calls -/
set_option maxRecDepth 100000
theorem tp_V1_h0 {P : tp_P} {a : tz_S} (h : tp_V1 P a) : a 0 0 = nI P.1 := h.1.1
theorem mX1_emit {P : tp_P} (okP : tp_okP P) (o c : Int32) (a : tz_S) (hV : tp_V1 P a) : tz_Mi IX1 yX1_emit cX1_emit 3 .int 0 [o, c] a (fun r u => ∃ P', tp_emit P o c r P' ∧ tp_V1 P' u) := by
  have okL := okP.1
  have h0 := tp_V1_h0 hV
  refine tz_enter (by decide) rfl (Nat.le_of_ble_eq_true rfl) (fun E C R => ?_)
  show tz_Z _ E 0 [some (.ref (tz_h E 0)), some (.int o), some (.int c)] [] _
  refine tz_iload_1 C dX1_emit_0 ?_
  refine tz_if_lt (tgt := 10) C dX1_emit_1 (by decide) (fun c1 => ?_) (fun c1 => ?_)
  · skip
    refine tz_iconst (v := -1) C dX1_emit_10 (by decide) ?_
    exact R _ _ _ _ dX1_emit_11 rfl (⟨P, Or.inl ⟨Or.inl c1, rfl, rfl⟩, hV⟩)
  · skip
    refine tz_iload_1 C dX1_emit_4 ?_
    refine tz_bipush (v := nI 14) C dX1_emit_5 (by decide) ?_
    refine tz_icmp_le (tgt := 12) C dX1_emit_7 (by decide) (fun c7 => ?_) (fun c7 => ?_)
    · obtain ⟨q, hq, rfl⟩ := nI_of2 (M := nI 14) (n := 14) rfl c1 c7
      refine tz_aload_0 C dX1_emit_12 ?_
      refine tz_getI okX1 C 0 dX1_emit_13 rfl (by decide) q226 ?_
      refine tz_top (h0) ?_
      refine tz_bipush (v := nI 16) C dX1_emit_16 (by decide) ?_
      refine tz_icmp_ne_n (tgt := 24) C dX1_emit_18 (by decide) (fun c18 => ?_) (fun c18 => ?_)
      · have c18 : P.1 < 16 := by omega
        have e1 : ∀ v, tz_sw a 1 P.1 v 0 0 = nI P.1 := fun v => by rw [tz_sw_o _ _ _ (by decide)]; exact h0
        have e2 : ∀ v w, tz_sw (tz_sw a 1 P.1 v) 2 P.1 w 0 0 = nI P.1 := fun v w => by rw [tz_sw_o _ _ _ (by decide)]; exact e1 v
        refine tz_aload_0 C dX1_emit_24 ?_
        refine tz_getA okX1 C 1 dX1_emit_25 rfl q227 ?_
        refine tz_aload_0 C dX1_emit_28 ?_
        refine tz_getI okX1 C 0 dX1_emit_29 rfl (by decide) q226 ?_
        refine tz_top (h0) ?_
        refine tz_iload_1 C dX1_emit_32 ?_
        refine tz_iast okX1 C dX1_emit_33 rfl ?_
        refine tz_aload_0 C dX1_emit_34 ?_
        refine tz_getA okX1 C 2 dX1_emit_35 rfl q228 ?_
        refine tz_aload_0 C dX1_emit_38 ?_
        refine tz_getI okX1 C 0 dX1_emit_39 rfl (by decide) q226 ?_
        refine tz_top (e1 _) ?_
        refine tz_iload_2 C dX1_emit_42 ?_
        refine tz_iast okX1 C dX1_emit_43 rfl ?_
        refine tz_aload_0 C dX1_emit_44 ?_
        refine tz_aload_0 C dX1_emit_45 ?_
        refine tz_getI okX1 C 0 dX1_emit_46 rfl (by decide) q226 ?_
        refine tz_top (e2 _ _) ?_
        refine tz_iconst (v := nI 1) C dX1_emit_49 (by decide) ?_
        first | refine tz_iadd_n C dX1_emit_50 ?_ | refine tz_iadd C dX1_emit_50 ?_
        refine tz_putI okX1 C 0 dX1_emit_51 rfl (by decide) q226 (by first | rfl | decide) (by first | rfl | decide) ?_
        refine tz_aload_0 C dX1_emit_54 ?_
        refine tz_iconst (v := nI 0) C dX1_emit_55 (by decide) ?_
        refine tz_putI okX1 C 5 dX1_emit_56 rfl (by decide) q231 (by first | rfl | decide) (by first | rfl | decide) ?_
        refine tz_aload_0 C dX1_emit_59 ?_
        refine tz_getI okX1 C 0 dX1_emit_60 rfl (by decide) q226 ?_
        refine tz_top ((by rw [tz_sw_o _ _ _ (by decide), tz_sw_kj])) ?_
        refine tz_iconst (v := nI 1) C dX1_emit_63 (by decide) ?_
        refine tz_isub_n C dX1_emit_64 (by omega) ?_
        obtain ⟨⟨p0, p1, p2, p3, p4⟩, -⟩ := hV
        refine R _ _ _ _ dX1_emit_65 rfl ⟨_, Or.inr (Or.inr ⟨c18, q, hq, rfl, by rw [Nat.add_sub_cancel], rfl⟩), tp_V1_has ⟨?_, ?_, ?_, ?_, ?_⟩ ?_⟩
        · simp [tz_sw_ap]
        · intro p
          simp only [tz_sw_ap]
          by_cases h : p = P.1
          · simp [h]
          · simp [h]; exact p1 p
        · intro p
          simp only [tz_sw_ap]
          by_cases h : p = P.1
          · simp [h]
          · simp [h]; exact p2 p
        · intro p; simp [tz_sw_ap]; exact p3 p
        · intro p; simp [tz_sw_ap]; exact p4 p
        · simp [tz_sw_ap]
      · skip
        refine tz_bipush (v := -2) C dX1_emit_21 (by decide) ?_
        refine R _ _ _ _ dX1_emit_23 rfl ⟨P, Or.inr (Or.inl ⟨tp_emit_q hq, by omega, rfl, rfl⟩), hV⟩
    · skip
      refine tz_iconst (v := -1) C dX1_emit_10 (by decide) ?_
      exact R _ _ _ _ dX1_emit_11 rfl (⟨P, Or.inl ⟨Or.inr (Int32.not_le.mp c7), rfl, rfl⟩, hV⟩)
theorem mX1_patch {P : tp_P} (okP : tp_okP P) (p c : Int32) (a : tz_S) (hV : tp_V1 P a) : tz_Mi IX1 yX1_patch cX1_patch 4 .int 1 [p, c] a (fun r u => ∃ P', tp_patch P p c r P' ∧ tp_V1 P' u) := by
  have okL := okP.1
  have h0 := tp_V1_h0 hV
  refine tz_enter (by decide) rfl (Nat.le_of_ble_eq_true rfl) (fun E C R => ?_)
  show tz_Z _ E 0 [some (.ref (tz_h E 0)), some (.int p), some (.int c), none] [] _
  refine tz_aload_0 C dX1_patch_0 ?_
  refine tz_iload_1 C dX1_patch_1 ?_
  refine tz_call1 okX1 C vX1_bad (mX1_bad p a) dX1_patch_2 (fun r u hu => ?_)
  obtain ⟨rfl, hr⟩ := hu
  have hr : r = tp_bz (tp_nw P.1 p) := by rw [hr, h0]; rfl
  subst hr
  refine tz_if_eq (tgt := 11) C dX1_patch_5 (by decide) (fun c5 => ?_) (fun c5 => ?_)
  · obtain ⟨q, hq, rfl⟩ := tp_nw_not (by omega) (tp_bz_0.mp c5)
    refine tz_aload_0 C dX1_patch_11 ?_
    refine tz_getA okX1 C 2 dX1_patch_12 rfl q228 ?_
    refine tz_iload_1 C dX1_patch_15 ?_
    refine tz_iald okX1 C dX1_patch_16 rfl ?_
    refine tz_istore_3 C dX1_patch_17 ?_
    refine tz_aload_0 C dX1_patch_18 ?_
    refine tz_getA okX1 C 2 dX1_patch_19 rfl q228 ?_
    refine tz_iload_1 C dX1_patch_22 ?_
    refine tz_iload_2 C dX1_patch_23 ?_
    refine tz_iast okX1 C dX1_patch_24 rfl ?_
    refine tz_aload_0 C dX1_patch_25 ?_
    refine tz_iconst (v := nI 0) C dX1_patch_26 (by decide) ?_
    refine tz_putI okX1 C 5 dX1_patch_27 rfl (by decide) q231 (by first | rfl | decide) (by first | rfl | decide) ?_
    refine tz_iload_3 C dX1_patch_30 ?_
    obtain ⟨⟨p0, p1, p2, p3, p4⟩, -⟩ := hV
    refine R _ _ _ _ dX1_patch_31 rfl ⟨_, Or.inr ⟨q, hq, rfl, p2 q, rfl⟩, tp_V1_has ⟨?_, ?_, ?_, ?_, ?_⟩ ?_⟩
    · simp [tz_sw_ap]; exact p0
    · intro p; simp [tz_sw_ap]; exact p1 p
    · intro p
      simp only [tz_sw_ap]
      by_cases h : p = q
      · simp [h]
      · simp [h]; exact p2 p
    · intro p; simp [tz_sw_ap]; exact p3 p
    · intro p; simp [tz_sw_ap]; exact p4 p
    · simp [tz_sw_ap]
  · have nw : tp_nw P.1 p := Classical.byContradiction fun q => c5 (tp_bz_0.mpr q)
    refine tz_bipush (v := -3) C dX1_patch_8 (by decide) ?_
    exact R _ _ _ _ dX1_patch_10 rfl (⟨P, Or.inl ⟨nw, rfl, rfl⟩, hV⟩)
theorem mX1_begin {P : tp_P} (okP : tp_okP P) (g l h : Int32) (a : tz_S) (hV : tp_V1 P a) : tz_Mi IX1 yX1_begin cX1_begin 4 .int 0 [g, l, h] a (fun r u => ∃ P', tp_begin P g l h r P' ∧ tp_V1 P' u) := by
  refine tz_enter (by decide) rfl (Nat.le_of_ble_eq_true rfl) (fun E C R => ?_)
  show tz_Z _ E 0 [some (.ref (tz_h E 0)), some (.int g), some (.int l), some (.int h)] [] _
  have bad : (g < 0 ∨ nI 1 < g ∨ l < 0 ∨ h < l ∨ nI 15 < h) → tz_Z IX1 E 24 [some (.ref (tz_h E 0)), some (.int g), some (.int l), some (.int h)] [] a := by
    intro hb
    refine tz_bipush (v := -4) C dX1_begin_24 (by decide) ?_
    exact R _ _ _ _ dX1_begin_26 rfl (⟨P, Or.inl ⟨hb, rfl, rfl⟩, hV⟩)
  refine tz_iload_1 C dX1_begin_0 ?_
  refine tz_if_lt (tgt := 24) C dX1_begin_1 (by decide) (fun c1 => ?_) (fun c1 => ?_)
  · exact bad (Or.inl c1)
  · skip
    refine tz_iload_1 C dX1_begin_4 ?_
    refine tz_iconst (v := nI 1) C dX1_begin_5 (by decide) ?_
    refine tz_icmp_gt (tgt := 24) C dX1_begin_6 (by decide) (fun c6 => ?_) (fun c6 => ?_)
    · exact bad (Or.inr (Or.inl c6))
    · skip
      refine tz_iload_2 C dX1_begin_9 ?_
      refine tz_if_lt (tgt := 24) C dX1_begin_10 (by decide) (fun c10 => ?_) (fun c10 => ?_)
      · exact bad (Or.inr (Or.inr (Or.inl c10)))
      · skip
        refine tz_iload_2 C dX1_begin_13 ?_
        refine tz_iload_3 C dX1_begin_14 ?_
        refine tz_icmp_gt (tgt := 24) C dX1_begin_15 (by decide) (fun c15 => ?_) (fun c15 => ?_)
        · exact bad (Or.inr (Or.inr (Or.inr (Or.inl c15))))
        · skip
          refine tz_iload_3 C dX1_begin_18 ?_
          refine tz_bipush (v := nI 15) C dX1_begin_19 (by decide) ?_
          refine tz_icmp_le (tgt := 27) C dX1_begin_21 (by decide) (fun c21 => ?_) (fun c21 => ?_)
          · obtain ⟨i, hi, rfl⟩ := nI_of2 (M := nI 1) (n := 1) rfl c1 (tp_not_lt c6)
            obtain ⟨x, hx, rfl⟩ := nI_of2 (M := nI 15) (n := 15) rfl c10 (Int32.le_trans (tp_not_lt c15) c21)
            obtain ⟨y, hy, rfl⟩ := nI_of2 (M := nI 15) (n := 15) rfl (fun q => c15 (Int32.lt_of_lt_of_le q (nI_pos' (by omega)))) c21
            have hxy : x ≤ y := (nI_leI (by omega) (by omega)).mp (tp_not_lt c15)
            refine tz_aload_0 C dX1_begin_27 ?_
            refine tz_getA okX1 C 3 dX1_begin_28 rfl q229 ?_
            refine tz_iload_1 C dX1_begin_31 ?_
            refine tz_iload_2 C dX1_begin_32 ?_
            refine tz_iast okX1 C dX1_begin_33 rfl ?_
            refine tz_aload_0 C dX1_begin_34 ?_
            refine tz_getA okX1 C 4 dX1_begin_35 rfl q230 ?_
            refine tz_iload_1 C dX1_begin_38 ?_
            refine tz_iload_3 C dX1_begin_39 ?_
            refine tz_iast okX1 C dX1_begin_40 rfl ?_
            refine tz_aload_0 C dX1_begin_41 ?_
            refine tz_iconst (v := nI 0) C dX1_begin_42 (by decide) ?_
            refine tz_putI okX1 C 5 dX1_begin_43 rfl (by decide) q231 (by first | rfl | decide) (by first | rfl | decide) ?_
            refine tz_iconst (v := nI 0) C dX1_begin_46 (by decide) ?_
            obtain ⟨⟨p0, p1, p2, p3, p4⟩, -⟩ := hV
            refine R _ _ _ _ dX1_begin_47 rfl ⟨_, Or.inr ⟨i, x, y, by omega, hxy, hy, rfl, rfl, rfl, rfl, rfl⟩, tp_V1_has ⟨?_, ?_, ?_, ?_, ?_⟩ ?_⟩
            · simp [tz_sw_ap]; exact p0
            · intro p; simp [tz_sw_ap]; exact p1 p
            · intro p; simp [tz_sw_ap]; exact p2 p
            · intro p
              simp only [tz_sw_ap]
              by_cases h : p = i
              · simp [h]
              · simp [h]; exact p3 p
            · intro p
              simp only [tz_sw_ap]
              by_cases h : p = i
              · simp [h]
              · simp [h]; exact p4 p
            · simp [tz_sw_ap]
          · exact bad (Or.inr (Or.inr (Or.inr (Or.inr (Int32.not_le.mp c21)))))
theorem mX1_clear {P : tp_P} (a : tz_S) (hV : tp_V1 P a) : tz_Mv IX1 yX1_clear cX1_clear 1 0 [] a (tp_V1 (tp_clear P)) := by
  refine tz_enterv (by decide) rfl (Nat.le_of_ble_eq_true rfl) (fun E C R => ?_)
  show tz_Z _ E 0 [some (.ref (tz_h E 0))] [] _
  refine tz_aload_0 C dX1_clear_0 ?_
  refine tz_iconst (v := nI 0) C dX1_clear_1 (by decide) ?_
  refine tz_putI okX1 C 0 dX1_clear_2 rfl (by decide) q226 (by first | rfl | decide) (by first | rfl | decide) ?_
  refine tz_aload_0 C dX1_clear_5 ?_
  refine tz_iconst (v := nI 0) C dX1_clear_6 (by decide) ?_
  refine tz_putI okX1 C 5 dX1_clear_7 rfl (by decide) q231 (by first | rfl | decide) (by first | rfl | decide) ?_
  obtain ⟨⟨p0, p1, p2, p3, p4⟩, -⟩ := hV
  refine R _ _ _ dX1_clear_10 (tp_V1_has ⟨?_, ?_, ?_, ?_, ?_⟩ ?_)
  · simp [tz_sw_ap, tp_clear]
  · intro p; simp [tz_sw_ap, tp_clear]; exact p1 p
  · intro p; simp [tz_sw_ap, tp_clear]; exact p2 p
  · intro p; simp [tz_sw_ap, tp_clear]; exact p3 p
  · intro p; simp [tz_sw_ap, tp_clear]; exact p4 p
  · simp [tz_sw_ap]
theorem mX1_states {P : tp_P} (okP : tp_okP P) (p : Int32) (a : tz_S) (hV : tp_V1 P a) : tz_Mi IX1 yX1_states cX1_states 5 .int 5 [p] a (fun r u => tp_aStates P p r ∧ tp_V1 P u) := by
  have okL := okP.1
  have h0 := tp_V1_h0 hV
  refine tz_enter (by decide) rfl (Nat.le_of_ble_eq_true rfl) (fun E C R => ?_)
  show tz_Z _ E 0 [some (.ref (tz_h E 0)), some (.int p), none, none, none] [] _
  refine tz_aload_0 C dX1_states_0 ?_
  refine tz_iload_1 C dX1_states_1 ?_
  refine tz_call1 okX1 C vX1_bad (mX1_bad p a) dX1_states_2 (fun r u hu => ?_)
  obtain ⟨rfl, hr⟩ := hu
  have hr : r = tp_bz (tp_nw P.1 p) := by rw [hr, h0]; rfl
  subst hr
  refine tz_if_eq (tgt := 11) C dX1_states_5 (by decide) (fun c5 => ?_) (fun c5 => ?_)
  · obtain ⟨q, hq, rfl⟩ := tp_nw_not (by omega) (tp_bz_0.mp c5)
    refine tz_aload_0 C dX1_states_11 ?_
    refine tz_callv0 okX1 C vX1_workOut (mX1_workOut okP u hV) dX1_states_12 (fun w hw => ?_)
    refine tz_iconst (v := nI 0) C dX1_states_15 (by decide) ?_
    refine tz_istore_2 C dX1_states_16 ?_
    refine tz_iconst (v := nI 0) C dX1_states_17 (by decide) ?_
    refine tz_istore_3 C dX1_states_18 ?_
    have loop : ∀ x, x ≤ 16 → ∀ o4 : Option Value, tz_Z IX1 E 19 [some (.ref (tz_h E 0)), some (.int (nI q)), some (.int (nI (tp_sm (fun x => tp_cn (tp_bt (w 6 (q * 16 + x))) 16) x))), some (.int (nI x)), o4] [] w := by
      refine tz_upto 16 (fun x hx ih => ?_)
      intro o4
      refine tz_iload_3 C dX1_states_19 ?_
      refine tz_bipush (v := nI 16) C dX1_states_20 (by decide) ?_
      refine tz_icmp_ge_n (tgt := 53) C dX1_states_22 (by decide) (fun c22 => ?_) (fun c22 => ?_)
      · have hx16 : x = 16 := by omega
        subst hx16
        refine tz_iload_2 C dX1_states_53 ?_
        exact R _ _ _ _ dX1_states_54 rfl (⟨Or.inr ⟨q, hq, rfl, w 6, w 9, w 10, w 12 0, hw.2.2.1, rfl⟩, tp_R1_V1 hw⟩)
      · skip
        refine tz_aload_0 C dX1_states_25 ?_
        refine tz_aload_0 C dX1_states_26 ?_
        refine tz_getA okX1 C 6 dX1_states_27 rfl q232 ?_
        refine tz_iload_1 C dX1_states_30 ?_
        refine tz_bipush (v := nI 16) C dX1_states_31 (by decide) ?_
        first | refine tz_imul_n C dX1_states_33 ?_ | refine tz_imul C dX1_states_33 ?_
        refine tz_iload_3 C dX1_states_34 ?_
        first | refine tz_iadd_n C dX1_states_35 ?_ | refine tz_iadd C dX1_states_35 ?_
        refine tz_iald okX1 C dX1_states_36 rfl ?_
        refine tz_call1 okX1 C vX1_count (mX1_count _ w) dX1_states_37 (fun s w' hs => ?_)
        obtain ⟨rfl, rfl⟩ := hs
        refine tz_istore_4 C dX1_states_40 ?_
        refine tz_iload_2 C dX1_states_42 ?_
        refine tz_iload_4 C dX1_states_43 ?_
        first | refine tz_iadd_n C dX1_states_45 ?_ | refine tz_iadd C dX1_states_45 ?_
        refine tz_istore_2 C dX1_states_46 ?_
        refine tz_iinc_3_n C dX1_states_47 ?_
        refine tz_goto (tgt := 19) C dX1_states_50 (by decide) ?_
        exact ih c22 _
    exact loop 0 (by decide) none
  · have nw : tp_nw P.1 p := Classical.byContradiction fun q => c5 (tp_bz_0.mpr q)
    refine tz_bipush (v := -3) C dX1_states_8 (by decide) ?_
    exact R _ _ _ _ dX1_states_10 rfl (⟨Or.inl ⟨nw, rfl⟩, hV⟩)
theorem mX1_possible {P : tp_P} (okP : tp_okP P) (p x y : Int32) (a : tz_S) (hV : tp_V1 P a) : tz_Mi IX1 yX1_possible cX1_possible 4 .boolean 5 [p, x, y] a (fun r u => tp_aPossible P p x y r ∧ tp_V1 P u) := by
  have okL := okP.1
  have h0 := tp_V1_h0 hV
  refine tz_enter (by decide) rfl (Nat.le_of_ble_eq_true rfl) (fun E C R => ?_)
  show tz_Z _ E 0 [some (.ref (tz_h E 0)), some (.int p), some (.int x), some (.int y)] [] _
  have bad : (tp_nw P.1 p ∨ x < 0 ∨ nI 15 < x ∨ y < 0 ∨ nI 15 < y) → tz_Z IX1 E 28 [some (.ref (tz_h E 0)), some (.int p), some (.int x), some (.int y)] [] a := by
    intro hb
    refine tz_iconst (v := nI 0) C dX1_possible_28 (by decide) ?_
    exact R _ _ _ _ dX1_possible_29 (by first | rfl | decide | exact tp_bz_nar _) (⟨Or.inl ⟨hb, rfl⟩, hV⟩)
  refine tz_aload_0 C dX1_possible_0 ?_
  refine tz_iload_1 C dX1_possible_1 ?_
  refine tz_call1 okX1 C vX1_bad (mX1_bad p a) dX1_possible_2 (fun r u hu => ?_)
  obtain ⟨rfl, hr⟩ := hu
  have hr : r = tp_bz (tp_nw P.1 p) := by rw [hr, h0]; rfl
  subst hr
  refine tz_if_ne (tgt := 28) C dX1_possible_5 (by decide) (fun c5 => ?_) (fun c5 => ?_)
  · exact bad (Or.inl (Classical.byContradiction fun q => c5 (tp_bz_0.mpr q)))
  · skip
    refine tz_iload_2 C dX1_possible_8 ?_
    refine tz_if_lt (tgt := 28) C dX1_possible_9 (by decide) (fun c9 => ?_) (fun c9 => ?_)
    · exact bad (Or.inr (Or.inl c9))
    · skip
      refine tz_iload_2 C dX1_possible_12 ?_
      refine tz_bipush (v := nI 15) C dX1_possible_13 (by decide) ?_
      refine tz_icmp_gt (tgt := 28) C dX1_possible_15 (by decide) (fun c15 => ?_) (fun c15 => ?_)
      · exact bad (Or.inr (Or.inr (Or.inl c15)))
      · skip
        refine tz_iload_3 C dX1_possible_18 ?_
        refine tz_if_lt (tgt := 28) C dX1_possible_19 (by decide) (fun c19 => ?_) (fun c19 => ?_)
        · exact bad (Or.inr (Or.inr (Or.inr (Or.inl c19))))
        · skip
          refine tz_iload_3 C dX1_possible_22 ?_
          refine tz_bipush (v := nI 15) C dX1_possible_23 (by decide) ?_
          refine tz_icmp_le (tgt := 30) C dX1_possible_25 (by decide) (fun c25 => ?_) (fun c25 => ?_)
          · obtain ⟨q, hq, rfl⟩ := tp_nw_not (by omega) (tp_bz_0.mp c5)
            obtain ⟨i, hi, rfl⟩ := nI_of2 (M := nI 15) (n := 15) rfl c9 (tp_not_lt c15)
            obtain ⟨j, hj, rfl⟩ := nI_of2 (M := nI 15) (n := 15) rfl c19 c25
            refine tz_aload_0 C dX1_possible_30 ?_
            refine tz_callv0 okX1 C vX1_workOut (mX1_workOut okP u hV) dX1_possible_31 (fun w hw => ?_)
            have fin : ∀ r, r = tp_bz (tp_bt (w 6 (q * 16 + i)) j = true) → tp_aPossible P (nI q) (nI i) (nI j) r := fun r hr => Or.inr ⟨q, i, j, hq, by omega, by omega, rfl, rfl, rfl, w 6, w 9, w 10, w 12 0, hw.2.2.1, hr⟩
            refine tz_aload_0 C dX1_possible_34 ?_
            refine tz_getA okX1 C 6 dX1_possible_35 rfl q232 ?_
            refine tz_iload_1 C dX1_possible_38 ?_
            refine tz_bipush (v := nI 16) C dX1_possible_39 (by decide) ?_
            first | refine tz_imul_n C dX1_possible_41 ?_ | refine tz_imul C dX1_possible_41 ?_
            refine tz_iload_2 C dX1_possible_42 ?_
            first | refine tz_iadd_n C dX1_possible_43 ?_ | refine tz_iadd C dX1_possible_43 ?_
            refine tz_iald okX1 C dX1_possible_44 rfl ?_
            refine tz_iload_3 C dX1_possible_45 ?_
            refine tz_ishr C dX1_possible_46 ?_
            refine tz_iconst (v := nI 1) C dX1_possible_47 (by decide) ?_
            refine tz_iand C dX1_possible_48 ?_
            refine tz_iconst (v := nI 1) C dX1_possible_49 (by decide) ?_
            refine tz_icmp_ne (tgt := 57) C dX1_possible_50 (by decide) (fun c50 => ?_) (fun c50 => ?_)
            · skip
              refine tz_iconst (v := nI 0) C dX1_possible_57 (by decide) ?_
              exact R _ _ _ _ dX1_possible_58 (by first | rfl | decide | exact tp_bz_nar _) (⟨fin _ (tp_bz_f (fun h => c50 (tp_shr_t (by omega) h))).symm, tp_R1_V1 hw⟩)
            · skip
              refine tz_iconst (v := nI 1) C dX1_possible_53 (by decide) ?_
              refine tz_goto (tgt := 58) C dX1_possible_54 (by decide) ?_
              exact R _ _ _ _ dX1_possible_58 (by first | rfl | decide | exact tp_bz_nar _) (⟨fin _ (tp_bz_t ((tp_shr_iff _ (by omega)).mp c50)).symm, tp_R1_V1 hw⟩)
          · exact bad (Or.inr (Or.inr (Or.inr (Or.inr (Int32.not_le.mp c25)))))
theorem mX1_values {P : tp_P} (okP : tp_okP P) (p g : Int32) (a : tz_S) (hV : tp_V1 P a) : tz_Mi IX1 yX1_values cX1_values 6 .int 5 [p, g] a (fun r u => tp_aValues P p g r ∧ tp_V1 P u) := by
  have okL := okP.1
  have h0 := tp_V1_h0 hV
  refine tz_enter (by decide) rfl (Nat.le_of_ble_eq_true rfl) (fun E C R => ?_)
  show tz_Z _ E 0 [some (.ref (tz_h E 0)), some (.int p), some (.int g), none, none, none] [] _
  refine tz_aload_0 C dX1_values_0 ?_
  refine tz_iload_1 C dX1_values_1 ?_
  refine tz_call1 okX1 C vX1_bad (mX1_bad p a) dX1_values_2 (fun r u hu => ?_)
  obtain ⟨rfl, hr⟩ := hu
  have hr : r = tp_bz (tp_nw P.1 p) := by rw [hr, h0]; rfl
  subst hr
  refine tz_if_eq (tgt := 11) C dX1_values_5 (by decide) (fun c5 => ?_) (fun c5 => ?_)
  · have nw := tp_bz_0.mp c5
    have bad : (g < 0 ∨ nI 1 < g) → tz_Z IX1 E 20 [some (.ref (tz_h E 0)), some (.int p), some (.int g), none, none, none] [] u := by
      intro hb
      refine tz_bipush (v := -4) C dX1_values_20 (by decide) ?_
      exact R _ _ _ _ dX1_values_22 rfl (⟨Or.inr (Or.inl ⟨nw, hb, rfl⟩), hV⟩)
    refine tz_iload_2 C dX1_values_11 ?_
    refine tz_if_lt (tgt := 20) C dX1_values_12 (by decide) (fun c12 => ?_) (fun c12 => ?_)
    · exact bad (Or.inl c12)
    · skip
      refine tz_iload_2 C dX1_values_15 ?_
      refine tz_iconst (v := nI 1) C dX1_values_16 (by decide) ?_
      refine tz_icmp_le (tgt := 23) C dX1_values_17 (by decide) (fun c17 => ?_) (fun c17 => ?_)
      · obtain ⟨q, hq, rfl⟩ := tp_nw_not (by omega) nw
        obtain ⟨i, hi, rfl⟩ := nI_of2 (M := nI 1) (n := 1) rfl c12 c17
        refine tz_aload_0 C dX1_values_23 ?_
        refine tz_callv0 okX1 C vX1_workOut (mX1_workOut okP u hV) dX1_values_24 (fun w hw => ?_)
        refine tz_iconst (v := nI 0) C dX1_values_27 (by decide) ?_
        refine tz_istore_3 C dX1_values_28 ?_
        refine tz_iconst (v := nI 0) C dX1_values_29 (by decide) ?_
        refine tz_istore_4 C dX1_values_30 ?_
        refine tz_iconst (v := nI 0) C dX1_values_32 (by decide) ?_
        refine tz_istore_5 C dX1_values_33 ?_
        have loop : ∀ x, x ≤ 16 → tz_Z IX1 E 35 [some (.ref (tz_h E 0)), some (.int (nI q)), some (.int (nI i)), some (.int (tp_xs (fun x => w 6 (q * 16 + x)) x)), some (.int (tp_or (fun x => w 6 (q * 16 + x)) x)), some (.int (nI x))] [] w := by
          refine tz_upto 16 (fun x hx ih => ?_)
          refine tz_iload_5 C dX1_values_35 ?_
          refine tz_bipush (v := nI 16) C dX1_values_37 (by decide) ?_
          refine tz_icmp_ge_n (tgt := 87) C dX1_values_39 (by decide) (fun c39 => ?_) (fun c39 => ?_)
          · have hx16 : x = 16 := by omega
            subst hx16
            refine tz_iload_2 C dX1_values_87 ?_
            refine tz_if_ne (tgt := 95) C dX1_values_88 (by decide) (fun c88 => ?_) (fun c88 => ?_)
            · have hi1 : i = 1 := by
                rcases Nat.eq_zero_or_pos i with z | z
                · subst z; exact absurd nI_0 c88
                · omega
              subst hi1
              refine tz_iload_4 C dX1_values_95 ?_
              exact R _ _ _ _ dX1_values_97 rfl (⟨Or.inr (Or.inr ⟨q, hq, rfl, Or.inl ⟨rfl, w 6, w 9, w 10, w 12 0, hw.2.2.1, rfl⟩⟩), tp_R1_V1 hw⟩)
            · have hi0 : i = 0 := (nI_eq (by omega) (by decide)).mp (c88.trans nI_0.symm)
              subst hi0
              refine tz_iload_3 C dX1_values_91 ?_
              refine tz_goto (tgt := 97) C dX1_values_92 (by decide) ?_
              exact R _ _ _ _ dX1_values_97 rfl (⟨Or.inr (Or.inr ⟨q, hq, rfl, Or.inr ⟨rfl, w 6, w 9, w 10, w 12 0, hw.2.2.1, rfl⟩⟩), tp_R1_V1 hw⟩)
          · skip
            refine tz_iload_4 C dX1_values_42 ?_
            refine tz_aload_0 C dX1_values_44 ?_
            refine tz_getA okX1 C 6 dX1_values_45 rfl q232 ?_
            refine tz_iload_1 C dX1_values_48 ?_
            refine tz_bipush (v := nI 16) C dX1_values_49 (by decide) ?_
            first | refine tz_imul_n C dX1_values_51 ?_ | refine tz_imul C dX1_values_51 ?_
            refine tz_iload_5 C dX1_values_52 ?_
            first | refine tz_iadd_n C dX1_values_54 ?_ | refine tz_iadd C dX1_values_54 ?_
            refine tz_iald okX1 C dX1_values_55 rfl ?_
            refine tz_ior C dX1_values_56 ?_
            refine tz_istore_4 C dX1_values_57 ?_
            refine tz_aload_0 C dX1_values_59 ?_
            refine tz_getA okX1 C 6 dX1_values_60 rfl q232 ?_
            refine tz_iload_1 C dX1_values_63 ?_
            refine tz_bipush (v := nI 16) C dX1_values_64 (by decide) ?_
            first | refine tz_imul_n C dX1_values_66 ?_ | refine tz_imul C dX1_values_66 ?_
            refine tz_iload_5 C dX1_values_67 ?_
            first | refine tz_iadd_n C dX1_values_69 ?_ | refine tz_iadd C dX1_values_69 ?_
            refine tz_iald okX1 C dX1_values_70 rfl ?_
            refine tz_if_eq (tgt := 81) C dX1_values_71 (by decide) (fun c71 => ?_) (fun c71 => ?_)
            · skip
              refine tz_iinc_5_n C dX1_values_81 ?_
              refine tz_goto (tgt := 35) C dX1_values_84 (by decide) ?_
              have := ih c39
              rw [tp_xs_z (f := fun x => w 6 (q * 16 + x)) (n := x) c71] at this
              exact this
            · skip
              refine tz_iload_3 C dX1_values_74 ?_
              refine tz_iconst (v := nI 1) C dX1_values_75 (by decide) ?_
              refine tz_iload_5 C dX1_values_76 ?_
              refine tz_ishl C dX1_values_78 ?_
              refine tz_ior C dX1_values_79 ?_
              refine tz_istore_3 C dX1_values_80 ?_
              refine tz_iinc_5_n C dX1_values_81 ?_
              refine tz_goto (tgt := 35) C dX1_values_84 (by decide) ?_
              have := ih c39
              rw [tp_xs_n (f := fun x => w 6 (q * 16 + x)) (n := x) c71] at this
              exact this
        exact loop 0 (by decide)
      · exact bad (Or.inr (Int32.not_le.mp c17))
  · have nw : tp_nw P.1 p := Classical.byContradiction fun q => c5 (tp_bz_0.mpr q)
    refine tz_bipush (v := -3) C dX1_values_8 (by decide) ?_
    exact R _ _ _ _ dX1_values_10 rfl (⟨Or.inl ⟨nw, rfl⟩, hV⟩)
theorem mX1_traps {P : tp_P} (okP : tp_okP P) (p : Int32) (a : tz_S) (hV : tp_V1 P a) : tz_Mi IX1 yX1_traps cX1_traps 2 .int 5 [p] a (fun r u => tp_aTraps P p r ∧ tp_V1 P u) := by
  have okL := okP.1
  have h0 := tp_V1_h0 hV
  refine tz_enter (by decide) rfl (Nat.le_of_ble_eq_true rfl) (fun E C R => ?_)
  show tz_Z _ E 0 [some (.ref (tz_h E 0)), some (.int p)] [] _
  refine tz_aload_0 C dX1_traps_0 ?_
  refine tz_iload_1 C dX1_traps_1 ?_
  refine tz_call1 okX1 C vX1_bad (mX1_bad p a) dX1_traps_2 (fun r u hu => ?_)
  obtain ⟨rfl, hr⟩ := hu
  have hr : r = tp_bz (tp_nw P.1 p) := by rw [hr, h0]; rfl
  subst hr
  refine tz_if_eq (tgt := 11) C dX1_traps_5 (by decide) (fun c5 => ?_) (fun c5 => ?_)
  · obtain ⟨q, hq, rfl⟩ := tp_nw_not (by omega) (tp_bz_0.mp c5)
    refine tz_aload_0 C dX1_traps_11 ?_
    refine tz_callv0 okX1 C vX1_workOut (mX1_workOut okP u hV) dX1_traps_12 (fun w hw => ?_)
    refine tz_aload_0 C dX1_traps_15 ?_
    refine tz_getA okX1 C 11 dX1_traps_16 rfl q237 ?_
    refine tz_iload_1 C dX1_traps_19 ?_
    refine tz_iald okX1 C dX1_traps_20 rfl ?_
    exact R _ _ _ _ dX1_traps_21 rfl (⟨Or.inr ⟨q, hq, rfl, w 6, w 9, w 10, w 12 0, hw.2.2.1, hw.2.2.2 q (by omega)⟩, tp_R1_V1 hw⟩)
  · have nw : tp_nw P.1 p := Classical.byContradiction fun q => c5 (tp_bz_0.mpr q)
    refine tz_bipush (v := -3) C dX1_traps_8 (by decide) ?_
    exact R _ _ _ _ dX1_traps_10 rfl (⟨Or.inl ⟨nw, rfl⟩, hV⟩)
theorem mX1_safe {P : tp_P} (okP : tp_okP P) (a : tz_S) (hV : tp_V1 P a) : tz_Mi IX1 yX1_safe cX1_safe 2 .boolean 5 [] a (fun r u => tp_aSafe P r ∧ tp_V1 P u) := by
  have okL := okP.1
  refine tz_enter (by decide) rfl (Nat.le_of_ble_eq_true rfl) (fun E C R => ?_)
  show tz_Z _ E 0 [some (.ref (tz_h E 0)), none] [] _
  refine tz_aload_0 C dX1_safe_0 ?_
  refine tz_callv0 okX1 C vX1_workOut (mX1_workOut okP a hV) dX1_safe_1 (fun w hw => ?_)
  refine tz_iconst (v := nI 0) C dX1_safe_4 (by decide) ?_
  refine tz_istore_1 C dX1_safe_5 ?_
  have loop : ∀ q, q ≤ P.1 → (∀ q', q' < q → tp_cT P (w 6) q' = 0) → tz_Z IX1 E 6 [some (.ref (tz_h E 0)), some (.int (nI q))] [] w := by
    refine tz_upto P.1 (fun q hq ih => ?_)
    intro hz
    refine tz_iload_1 C dX1_safe_6 ?_
    refine tz_aload_0 C dX1_safe_7 ?_
    refine tz_getI okX1 C 0 dX1_safe_8 rfl (by decide) q226 ?_
    refine tz_top (hw.1.1) ?_
    refine tz_icmp_ge_n (tgt := 31) C dX1_safe_11 (by decide) (fun c11 => ?_) (fun c11 => ?_)
    · skip
      refine tz_iconst (v := nI 1) C dX1_safe_31 (by decide) ?_
      exact R _ _ _ _ dX1_safe_32 (by first | rfl | decide | exact tp_bz_nar _) (⟨⟨w 6, w 9, w 10, w 12 0, hw.2.2.1, (tp_bz_t (fun q' hq' => hz q' (by omega))).symm⟩, tp_R1_V1 hw⟩)
    · have hle := tp_cT_le P (w 6) q
      refine tz_aload_0 C dX1_safe_14 ?_
      refine tz_getA okX1 C 11 dX1_safe_15 rfl q237 ?_
      refine tz_iload_1 C dX1_safe_18 ?_
      refine tz_iald okX1 C dX1_safe_19 rfl ?_
      refine tz_top (hw.2.2.2 q (by omega)) ?_
      refine tz_if_le (tgt := 25) C dX1_safe_20 (by decide) (fun c20 => ?_) (fun c20 => ?_)
      · have hc : tp_cT P (w 6) q = 0 := by
          rcases Nat.eq_zero_or_pos (tp_cT P (w 6) q) with z | z
          · exact z
          · exact absurd c20 (nI_nle z (by omega))
        refine tz_iinc_1_n C dX1_safe_25 ?_
        refine tz_goto (tgt := 6) C dX1_safe_28 (by decide) ?_
        refine ih c11 (fun q' hq' => ?_)
        rcases Nat.lt_or_ge q' q with z | z
        · exact hz q' z
        · rw [show q' = q by omega]; exact hc
      · skip
        refine tz_iconst (v := nI 0) C dX1_safe_23 (by decide) ?_
        refine R _ _ _ _ dX1_safe_24 (by decide) ⟨⟨w 6, w 9, w 10, w 12 0, hw.2.2.1, (tp_bz_f (fun z => ?_)).symm⟩, tp_R1_V1 hw⟩
        rw [z q c11] at c20
        exact c20 (by decide)
  exact loop 0 (Nat.zero_le _) (fun q' hq' => absurd hq' (Nat.not_lt_zero _))
theorem mX1_soonest {P : tp_P} (okP : tp_okP P) (p : Int32) (a : tz_S) (hV : tp_V1 P a) : tz_Mi IX1 yX1_soonest cX1_soonest 2 .int 5 [p] a (fun r u => tp_aSoonest P p r ∧ tp_V1 P u) := by
  have okL := okP.1
  have h0 := tp_V1_h0 hV
  refine tz_enter (by decide) rfl (Nat.le_of_ble_eq_true rfl) (fun E C R => ?_)
  show tz_Z _ E 0 [some (.ref (tz_h E 0)), some (.int p)] [] _
  refine tz_aload_0 C dX1_soonest_0 ?_
  refine tz_iload_1 C dX1_soonest_1 ?_
  refine tz_call1 okX1 C vX1_bad (mX1_bad p a) dX1_soonest_2 (fun r u hu => ?_)
  obtain ⟨rfl, hr⟩ := hu
  have hr : r = tp_bz (tp_nw P.1 p) := by rw [hr, h0]; rfl
  subst hr
  refine tz_if_eq (tgt := 11) C dX1_soonest_5 (by decide) (fun c5 => ?_) (fun c5 => ?_)
  · obtain ⟨q, hq, rfl⟩ := tp_nw_not (by omega) (tp_bz_0.mp c5)
    refine tz_aload_0 C dX1_soonest_11 ?_
    refine tz_callv0 okX1 C vX1_workOut (mX1_workOut okP u hV) dX1_soonest_12 (fun w hw => ?_)
    refine tz_aload_0 C dX1_soonest_15 ?_
    refine tz_getA okX1 C 10 dX1_soonest_16 rfl q236 ?_
    refine tz_iload_1 C dX1_soonest_19 ?_
    refine tz_iald okX1 C dX1_soonest_20 rfl ?_
    exact R _ _ _ _ dX1_soonest_21 rfl (⟨Or.inr ⟨q, hq, rfl, w 6, w 9, w 10, w 12 0, hw.2.2.1, rfl⟩, tp_R1_V1 hw⟩)
  · have nw : tp_nw P.1 p := Classical.byContradiction fun q => c5 (tp_bz_0.mpr q)
    refine tz_bipush (v := -3) C dX1_soonest_8 (by decide) ?_
    exact R _ _ _ _ dX1_soonest_10 rfl (⟨Or.inl ⟨nw, rfl⟩, hV⟩)
theorem mX1_canEnd {P : tp_P} (okP : tp_okP P) (a : tz_S) (hV : tp_V1 P a) : tz_Mi IX1 yX1_canEnd cX1_canEnd 1 .boolean 5 [] a (fun r u => tp_aCanEnd P r ∧ tp_V1 P u) := by
  refine tz_enter (by decide) rfl (Nat.le_of_ble_eq_true rfl) (fun E C R => ?_)
  show tz_Z _ E 0 [some (.ref (tz_h E 0))] [] _
  refine tz_aload_0 C dX1_canEnd_0 ?_
  refine tz_callv0 okX1 C vX1_workOut (mX1_workOut okP a hV) dX1_canEnd_1 (fun w hw => ?_)
  refine tz_aload_0 C dX1_canEnd_4 ?_
  refine tz_getI okX1 C 12 dX1_canEnd_5 rfl (by decide) q238 ?_
  refine R _ _ _ _ dX1_canEnd_8 (by rw [hw.2.2.1.2.2.2]; exact tp_bz_nar _) ⟨⟨w 6, w 9, w 10, w 12 0, hw.2.2.1, rfl⟩, tp_R1_V1 hw⟩
theorem mX1_endless {P : tp_P} (okP : tp_okP P) (a : tz_S) (hV : tp_V1 P a) : tz_Mi IX1 yX1_endless cX1_endless 4 .int 5 [] a (fun r u => ∃ hv al fs en, tp_Done P hv al fs en ∧ r = nI (tp_cE al) ∧ tp_V1 P u) := by
  refine tz_enter (by decide) rfl (Nat.le_of_ble_eq_true rfl) (fun E C R => ?_)
  show tz_Z _ E 0 [some (.ref (tz_h E 0)), none, none, none] [] _
  refine tz_aload_0 C dX1_endless_0 ?_
  refine tz_callv0 okX1 C vX1_workOut (mX1_workOut okP a hV) dX1_endless_1 (fun w hw => ?_)
  refine tz_iconst (v := nI 0) C dX1_endless_4 (by decide) ?_
  refine tz_istore_1 C dX1_endless_5 ?_
  refine tz_iconst (v := nI 0) C dX1_endless_6 (by decide) ?_
  refine tz_istore_2 C dX1_endless_7 ?_
  have loop : ∀ i, i ≤ 256 → ∀ o3 : Option Value, tz_Z IX1 E 8 [some (.ref (tz_h E 0)), some (.int (nI (tp_sm (fun i => tp_cn (tp_bt (w 9 i)) 16) i))), some (.int (nI i)), o3] [] w := by
    refine tz_upto 256 (fun i hi ih => ?_)
    intro o3
    refine tz_iload_2 C dX1_endless_8 ?_
    refine tz_sipush (v := nI 256) C dX1_endless_9 (by decide) ?_
    refine tz_icmp_ge_n (tgt := 36) C dX1_endless_12 (by decide) (fun c12 => ?_) (fun c12 => ?_)
    · have hi1 : i = 256 := by omega
      subst hi1
      refine tz_iload_1 C dX1_endless_36 ?_
      exact R _ _ _ _ dX1_endless_37 rfl (⟨w 6, w 9, w 10, w 12 0, hw.2.2.1, rfl, tp_R1_V1 hw⟩)
    · skip
      refine tz_aload_0 C dX1_endless_15 ?_
      refine tz_aload_0 C dX1_endless_16 ?_
      refine tz_getA okX1 C 9 dX1_endless_17 rfl q235 ?_
      refine tz_iload_2 C dX1_endless_20 ?_
      refine tz_iald okX1 C dX1_endless_21 rfl ?_
      refine tz_call1 okX1 C vX1_count (mX1_count _ w) dX1_endless_22 (fun s w' hs => ?_)
      obtain ⟨rfl, rfl⟩ := hs
      refine tz_istore_3 C dX1_endless_25 ?_
      refine tz_iload_1 C dX1_endless_26 ?_
      refine tz_iload_3 C dX1_endless_27 ?_
      first | refine tz_iadd_n C dX1_endless_28 ?_ | refine tz_iadd C dX1_endless_28 ?_
      refine tz_istore_1 C dX1_endless_29 ?_
      refine tz_iinc_2_n C dX1_endless_30 ?_
      refine tz_goto (tgt := 8) C dX1_endless_33 (by decide) ?_
      exact ih c12 _
  exact loop 0 (by decide) none
theorem mX1_canRunForever {P : tp_P} (okP : tp_okP P) (a : tz_S) (hV : tp_V1 P a) : tz_Mi IX1 yX1_canRunForever cX1_canRunForever 1 .boolean 6 [] a (fun r u => tp_aForever P r ∧ tp_V1 P u) := by
  refine tz_enter (by decide) rfl (Nat.le_of_ble_eq_true rfl) (fun E C R => ?_)
  show tz_Z _ E 0 [some (.ref (tz_h E 0))] [] _
  refine tz_aload_0 C dX1_canRunForever_0 ?_
  refine tz_call0 okX1 C vX1_endless (mX1_endless okP a hV) dX1_canRunForever_1 (fun r u hu => ?_)
  obtain ⟨hv, al, fs, en, hD, hr, hVu⟩ := hu
  subst hr
  have hle := tp_cE_le al
  refine tz_if_le (tgt := 11) C dX1_canRunForever_4 (by decide) (fun c4 => ?_) (fun c4 => ?_)
  · have hc : tp_cE al = 0 := by
      rcases Nat.eq_zero_or_pos (tp_cE al) with z | z
      · exact z
      · exact absurd c4 (nI_nle z (by omega))
    refine tz_iconst (v := nI 0) C dX1_canRunForever_11 (by decide) ?_
    exact R _ _ _ _ dX1_canRunForever_12 (by first | rfl | decide | exact tp_bz_nar _) (⟨⟨hv, al, fs, en, hD, (tp_bz_f (by omega)).symm⟩, hVu⟩)
  · have hc : 0 < tp_cE al := by
      rcases Nat.eq_zero_or_pos (tp_cE al) with z | z
      · rw [z] at c4; exact absurd (by decide) c4
      · exact z
    refine tz_iconst (v := nI 1) C dX1_canRunForever_7 (by decide) ?_
    refine tz_goto (tgt := 12) C dX1_canRunForever_8 (by decide) ?_
    exact R _ _ _ _ dX1_canRunForever_12 (by first | rfl | decide | exact tp_bz_nar _) (⟨⟨hv, al, fs, en, hD, (tp_bz_t hc).symm⟩, hVu⟩)
end
section
/-! CONSTRUCTORS: a row for 'new int[n]' put into a final field; the two constructors' contracts -/
set_option maxRecDepth 100000
theorem cz_int {args : Array Value} {s : State} (h : (Cond.arrayClass .int).before args s = true) : ∃ d : ClassId, ArrOfT s d .int ∧ va_RA s d .int := by
  obtain ⟨cA, kA, comp, hfind, hk, hkind⟩ := Cond.arrayClass_spec h
  exact ⟨cA, fun n z => ⟨fun k h => (by cases h), kA, hk, comp, hkind⟩, hfind⟩
theorem cz_K {D : va_G} {cl : List vw_C} {s : State} {d : ClassId} (hK : va_K D cl [] s) (hd : ArrOfT s d .int ∧ va_RA s d .int) : va_K D cl [(d, .int)] s := ⟨hK.1, fun k q hq => by
  match k, hq with
  | 0, hq => cases hq; exact hd
  | k + 1, hq => simp at hq⟩
section
variable {p : Program} {l : Launch} {e : Env} {R : Room} {s : State} {m : MethodId} {args : Array Value} {below : List Frame} {meth : Method} {c : Code} {H : Heap} {locs : List Loc} {cells slots : Nat} {Q : State → Prop} {cc : ByteArray} {pc : Nat} {ls : Array Slot} {rest : List Value} {I : tz_I} {D : va_G} {A : Nat → Prop} {d : ClassId}
theorem cz_step (ok : tz_ok I) (hx : p.tables.exec = Jvm.exec) (hb : c.code = cc) (hts : ∀ w ∈ lw_all, w.before args s = true) (hown : s.vm.findClass (tz_own I) = some m.cls) (hin : meth.name = "<init>") (hA : ∀ q, s.heap.size ≤ q → A q) (hK : va_K D (tz_cl I) [(d, .int)] s) {h0 : Nat} {fs : List Value} {ar : va_W} (hP : va_P D (tz_cl I) ((h0, .inr (tz_ci I, fs)) :: ar) H) (hD : va_D A ((h0, .inr (tz_ci I, fs)) :: ar)) (hS : va_S A s.heap H locs)
    (k n : Nat) (hk : k < tz_N I) (hfin : (tz_T I k).2.2.2 = true) (hdecl : (tz_T I k).1 = tz_own I) (hty : tz_ty I k = .array .int) (hlen : k < fs.length) (hn : n ≤ 256) {i : Nat} (hlink : Cond.fieldLink (tz_own I) i (tz_T I k).1 (tz_T I k).2.1 (tz_T I k).2.2.1 ∈ lw_all) (hcells : cells + 1 ≤ R.cells) (hslots : slots + n ≤ R.slots) (d1 : decode cc pc = .ok (.newarray .int, 2)) (d2 : decode cc (pc + 2) = .ok (.putfield i, 3))
    (kk : ∀ (q : Nat) (H1 : Heap) (locs1 : List Loc), va_P D (tz_cl I) ((h0, .inr (tz_ci I, fs.set k (.ref q))) :: (ar ++ [(q, .inl (d, n, .inl (fun _ => 0)))])) H1 → va_D A ((h0, .inr (tz_ci I, fs.set k (.ref q))) :: (ar ++ [(q, .inl (d, n, .inl (fun _ => 0)))])) → va_S A s.heap H1 locs1 → W p l e R s m args below meth c H1 locs1 (cells + 1) (slots + n) Q (F0 m (pc + 2 + 3) ls rest)) : W p l e R s m args below meth c H locs cells slots Q (F0 m pc ls (.int (nI n) :: .ref h0 :: rest)) := by
  obtain ⟨o1, o2, o3, o4, o5, o6, o7, o8⟩ := ok
  refine va_newa (atype := .int) (ty := .int) (a0 := (n, .inl (fun _ => 0))) hx hb (hts _ q87) rfl hK hP hD hS hA (fun _ => rfl) (nI_pos (by omega)) (nI_clamp (by omega)) (show n * 4 ≤ 536870912 by omega) hcells hslots d1 (fun q cA H1 hK1 hP1 hD1 hS1 => ?_)
  have e1 : va_RA s cA .int := (hK1.2 1 (cA, .int) rfl).2
  have e2 : va_RA s d .int := (hK.2 0 (d, .int) rfl).2
  have e : cA = d := Option.some.inj (e1.symm.trans e2)
  subst e
  exact va_putF (ty := .array .int) (v := .ref q) hx hb hts o1 (tz_ty I) o2 o3 hown hK hP1 hD1 hS1 0 rfl o4 k hk (hts _ hlink) (fun _ h => h) hfin hin hdecl (by rw [o2 k hk, hty]) rfl rfl hlen d2 (fun H2 locs2 hP2 hD2 hS2 => kk q H2 locs2 hP2 hD2 hS2)
theorem cz_getA (ok : tz_ok I) (hx : p.tables.exec = Jvm.exec) (hb : c.code = cc) (hts : ∀ w ∈ lw_all, w.before args s = true) (hown : s.vm.findClass (tz_own I) = some m.cls) (hK : va_K D (tz_cl I) [(d, .int)] s) {h : Nat → Nat} {a : tz_S} (hP : va_P D (tz_cl I) (tz_ws I h d a) H) (q : Nat) {n i : Nat} (dd : decode cc pc = .ok (.getfield i, 3)) (hs : tz_sh I q = some n) (hk : Cond.fieldLink (tz_own I) i (tz_T I q).1 (tz_T I q).2.1 (tz_T I q).2.2.1 ∈ lw_all)
    (kk : W p l e R s m args below meth c H locs cells slots Q (F0 m (pc + 3) ls (.ref (h q) :: rest))) : W p l e R s m args below meth c H locs cells slots Q (F0 m pc ls (.ref (h 0) :: rest)) := by
  obtain ⟨o1, o2, o3, o4, o5, o6, o7, o8⟩ := ok
  obtain ⟨g1, g2, g3, -⟩ := o6 q n hs
  exact va_get hx hb hts o1 hown hK hP 0 (o5 _ _ _) o4 q g1 (hts _ hk) (fun _ h => h) (g3 _ _) dd kk
theorem cz_iast (ok : tz_ok I) (hx : p.tables.exec = Jvm.exec) (hb : c.code = cc) (hK : va_K D (tz_cl I) [(d, .int)] s) {h : Nat → Nat} {a : tz_S} (hP : va_P D (tz_cl I) (tz_ws I h d a) H) (hD : va_D A (tz_ws I h d a)) (hS : va_S A s.heap H locs) {q n j : Nat} {v : Int32} (dd : decode cc pc = .ok (.iastore, 1)) (hs : tz_sh I q = some n) (hj : j < n)
    (kk : ∀ (H1 : Heap) (locs1 : List Loc), va_P D (tz_cl I) (tz_ws I h d (tz_sw a q j v)) H1 → va_D A (tz_ws I h d (tz_sw a q j v)) → va_S A s.heap H1 locs1 → W p l e R s m args below meth c H1 locs1 cells slots Q (F0 m (pc + 1) ls rest)) : W p l e R s m args below meth c H locs cells slots Q (F0 m pc ls (.int v :: .int (nI j) :: .ref (h q) :: rest)) := by
  obtain ⟨o1, o2, o3, o4, o5, o6, o7, o8⟩ := ok
  obtain ⟨g1, g2, g3, pp, g4⟩ := o6 q n hs
  refine va_iast hx hb hK hP hD hS pp 0 (g4 _ _ _).1 rfl (vp_in_nI hj (by omega)) dd (fun H1 locs1 hP1 hD1 hS1 => ?_)
  rw [nI_clamp (by omega), (g4 _ _ _).2] at hP1 hD1
  exact kk H1 locs1 hP1 hD1 hS1
end
/-- addresses by field number -/
def cz_h (l : List Nat) : Nat → Nat := fun k => l.getD k 0
/-- a new object's arrays: zero but for the upper ends -/
def cz_a : tz_S := tz_sw (tz_sw (fun _ _ => 0) 4 0 (nI 15)) 4 1 (nI 15)
abbrev fs0X0 : List Value := [.int 0, .null, .null, .null, .null, .int 0, .null, .null, .null, .null, .null, .int 0, .null, .null, .null, .null]
abbrev wnX0 (h0 : Nat) : va_W := [(h0, .inr (0, fs0X0))]
def tz_NX0 : Room := { frames := 1, cells := 13, slots := 1140, locals := 12 }
set_option maxHeartbeats 4000000 in
theorem nX0_init (l : Launch) (D : va_G) (h0 sz : Nat) : Met l yX0_init (ws_ yX0_init cX0_init 1 none) tz_NX0 (va_Pc [.ref h0] (fun U => U.heap.size = sz ∧ va_P D vwCl (wnX0 h0) U.heap ∧ va_K D vwCl [] U ∧ va_D (fun _ => True) (wnX0 h0))) (va_Qv (fun u : (Nat → Nat) × ClassId => u.1 0 = h0) (fun u t => va_P D vwCl (wrldX0 u.1 u.2 cz_a) t.heap ∧ va_K D vwCl [(u.2, .int)] t ∧ va_D (va_A (wnX0 h0) sz) (wrldX0 u.1 u.2 cz_a)) (va_A (wnX0 h0) sz)) 13 1140 (va_A (wnX0 h0) sz) := by
  refine Met.ofW (cc := cX0_init) (maxL := 1) (ret := none) (by decide) rfl ?_
  intro p e s m args below meth c s₁ B hml hv
  obtain ⟨rfl, hsz, hP, hK, hD0⟩ := hv
  have hx := B.exec
  have hb := B.bytes
  have hr := B.returns
  have hts := atoms_spec (ws := ws_ yX0_init cX0_init 1 none) B.pre
  have hts : ∀ w ∈ lw_all, w.before _ s = true := fun w h => hts w (List.mem_cons_of_mem _ h)
  have hown : s.vm.findClass RX0 = some m.cls := findClass_of_methodNamed B.named
  have hlocks := B.notSynchronized
  have hin : meth.name = "<init>" := (name_of_methodNamed B.named B.method).1
  subst hsz
  have hD := hD0.self (sz := s.heap.size)
  have hA : ∀ q : Nat, s.heap.size ≤ q → va_A (wnX0 h0) s.heap.size q := fun q h => Or.inr h
  generalize va_A (wnX0 h0) s.heap.size = A at hD hA ⊢
  have hS : va_S A s.heap s.heap [] := va_S.rf
  obtain ⟨d, hd⟩ := cz_int (hts _ q87)
  have hK := cz_K hK hd
  have hl := lv_entry ([.ref h0]) (n := 1) (Nat.le_of_ble_eq_true rfl)
  rw [lg_entry_eq]
  generalize (lg_sl ([.ref h0]) ++ List.replicate (1 - (lg_sl ([.ref h0])).length) Slot.unset).toArray = ls at hl ⊢
  have hl : lv_has ls 1 [(0, .ref h0)] := hl
  refine lv_aload_n hx hb dX0_init_0 rfl (lv_at hl 0 rfl) ?_
  refine W.objInit hx hb hown (hts _ q35) (hts _ q36) (hts _ q37) rfl (by rw [hml]; exact hl.1) rfl dX0_init_1 (Nat.le_of_ble_eq_true rfl) (Nat.le_of_ble_eq_true rfl) ?_
  refine W.eq (g2 := F0 m 4 ls []) rfl ?_
  refine lv_aload_n hx hb dX0_init_4 rfl (lv_at hl 0 rfl) ?_
  refine lv_bipush (v := nI 16) hx hb dX0_init_5 (by decide) ?_
  refine cz_step okX0 hx hb hts hown hin hA hK hP hD hS 1 16 (by decide) rfl rfl rfl (Nat.le_of_ble_eq_true rfl) (by decide) q39 (Nat.le_of_ble_eq_true rfl) (Nat.le_of_ble_eq_true rfl) dX0_init_7 dX0_init_9 (fun q1 H locs hP hD hS => ?_)
  have hP : va_P D vwCl [(h0, .inr (0, [.int 0, .ref q1, .null, .null, .null, .int 0, .null, .null, .null, .null, .null, .int 0, .null, .null, .null, .null])), (q1, .inl (d, 16, .inl (fun _ => 0)))] H := hP
  have hD : va_D A [(h0, .inr (0, [.int 0, .ref q1, .null, .null, .null, .int 0, .null, .null, .null, .null, .null, .int 0, .null, .null, .null, .null])), (q1, .inl (d, 16, .inl (fun _ => 0)))] := hD
  refine lv_aload_n hx hb dX0_init_12 rfl (lv_at hl 0 rfl) ?_
  refine lv_bipush (v := nI 16) hx hb dX0_init_13 (by decide) ?_
  refine cz_step okX0 hx hb hts hown hin hA hK hP hD hS 2 16 (by decide) rfl rfl rfl (Nat.le_of_ble_eq_true rfl) (by decide) q40 (Nat.le_of_ble_eq_true rfl) (Nat.le_of_ble_eq_true rfl) dX0_init_15 dX0_init_17 (fun q2 H locs hP hD hS => ?_)
  have hP : va_P D vwCl [(h0, .inr (0, [.int 0, .ref q1, .ref q2, .null, .null, .int 0, .null, .null, .null, .null, .null, .int 0, .null, .null, .null, .null])), (q1, .inl (d, 16, .inl (fun _ => 0))), (q2, .inl (d, 16, .inl (fun _ => 0)))] H := hP
  have hD : va_D A [(h0, .inr (0, [.int 0, .ref q1, .ref q2, .null, .null, .int 0, .null, .null, .null, .null, .null, .int 0, .null, .null, .null, .null])), (q1, .inl (d, 16, .inl (fun _ => 0))), (q2, .inl (d, 16, .inl (fun _ => 0)))] := hD
  refine lv_aload_n hx hb dX0_init_20 rfl (lv_at hl 0 rfl) ?_
  refine lv_iconst (v := nI 2) hx hb dX0_init_21 (by decide) ?_
  refine cz_step okX0 hx hb hts hown hin hA hK hP hD hS 3 2 (by decide) rfl rfl rfl (Nat.le_of_ble_eq_true rfl) (by decide) q41 (Nat.le_of_ble_eq_true rfl) (Nat.le_of_ble_eq_true rfl) dX0_init_22 dX0_init_24 (fun q3 H locs hP hD hS => ?_)
  have hP : va_P D vwCl [(h0, .inr (0, [.int 0, .ref q1, .ref q2, .ref q3, .null, .int 0, .null, .null, .null, .null, .null, .int 0, .null, .null, .null, .null])), (q1, .inl (d, 16, .inl (fun _ => 0))), (q2, .inl (d, 16, .inl (fun _ => 0))), (q3, .inl (d, 2, .inl (fun _ => 0)))] H := hP
  have hD : va_D A [(h0, .inr (0, [.int 0, .ref q1, .ref q2, .ref q3, .null, .int 0, .null, .null, .null, .null, .null, .int 0, .null, .null, .null, .null])), (q1, .inl (d, 16, .inl (fun _ => 0))), (q2, .inl (d, 16, .inl (fun _ => 0))), (q3, .inl (d, 2, .inl (fun _ => 0)))] := hD
  refine lv_aload_n hx hb dX0_init_27 rfl (lv_at hl 0 rfl) ?_
  refine lv_iconst (v := nI 2) hx hb dX0_init_28 (by decide) ?_
  refine cz_step okX0 hx hb hts hown hin hA hK hP hD hS 4 2 (by decide) rfl rfl rfl (Nat.le_of_ble_eq_true rfl) (by decide) q42 (Nat.le_of_ble_eq_true rfl) (Nat.le_of_ble_eq_true rfl) dX0_init_29 dX0_init_31 (fun q4 H locs hP hD hS => ?_)
  have hP : va_P D vwCl [(h0, .inr (0, [.int 0, .ref q1, .ref q2, .ref q3, .ref q4, .int 0, .null, .null, .null, .null, .null, .int 0, .null, .null, .null, .null])), (q1, .inl (d, 16, .inl (fun _ => 0))), (q2, .inl (d, 16, .inl (fun _ => 0))), (q3, .inl (d, 2, .inl (fun _ => 0))), (q4, .inl (d, 2, .inl (fun _ => 0)))] H := hP
  have hD : va_D A [(h0, .inr (0, [.int 0, .ref q1, .ref q2, .ref q3, .ref q4, .int 0, .null, .null, .null, .null, .null, .int 0, .null, .null, .null, .null])), (q1, .inl (d, 16, .inl (fun _ => 0))), (q2, .inl (d, 16, .inl (fun _ => 0))), (q3, .inl (d, 2, .inl (fun _ => 0))), (q4, .inl (d, 2, .inl (fun _ => 0)))] := hD
  refine lv_aload_n hx hb dX0_init_34 rfl (lv_at hl 0 rfl) ?_
  refine lv_sipush (v := nI 256) hx hb dX0_init_35 (by decide) ?_
  refine cz_step okX0 hx hb hts hown hin hA hK hP hD hS 6 256 (by decide) rfl rfl rfl (Nat.le_of_ble_eq_true rfl) (by decide) q44 (Nat.le_of_ble_eq_true rfl) (Nat.le_of_ble_eq_true rfl) dX0_init_38 dX0_init_40 (fun q6 H locs hP hD hS => ?_)
  have hP : va_P D vwCl [(h0, .inr (0, [.int 0, .ref q1, .ref q2, .ref q3, .ref q4, .int 0, .ref q6, .null, .null, .null, .null, .int 0, .null, .null, .null, .null])), (q1, .inl (d, 16, .inl (fun _ => 0))), (q2, .inl (d, 16, .inl (fun _ => 0))), (q3, .inl (d, 2, .inl (fun _ => 0))), (q4, .inl (d, 2, .inl (fun _ => 0))), (q6, .inl (d, 256, .inl (fun _ => 0)))] H := hP
  have hD : va_D A [(h0, .inr (0, [.int 0, .ref q1, .ref q2, .ref q3, .ref q4, .int 0, .ref q6, .null, .null, .null, .null, .int 0, .null, .null, .null, .null])), (q1, .inl (d, 16, .inl (fun _ => 0))), (q2, .inl (d, 16, .inl (fun _ => 0))), (q3, .inl (d, 2, .inl (fun _ => 0))), (q4, .inl (d, 2, .inl (fun _ => 0))), (q6, .inl (d, 256, .inl (fun _ => 0)))] := hD
  refine lv_aload_n hx hb dX0_init_43 rfl (lv_at hl 0 rfl) ?_
  refine lv_sipush (v := nI 256) hx hb dX0_init_44 (by decide) ?_
  refine cz_step okX0 hx hb hts hown hin hA hK hP hD hS 7 256 (by decide) rfl rfl rfl (Nat.le_of_ble_eq_true rfl) (by decide) q45 (Nat.le_of_ble_eq_true rfl) (Nat.le_of_ble_eq_true rfl) dX0_init_47 dX0_init_49 (fun q7 H locs hP hD hS => ?_)
  have hP : va_P D vwCl [(h0, .inr (0, [.int 0, .ref q1, .ref q2, .ref q3, .ref q4, .int 0, .ref q6, .ref q7, .null, .null, .null, .int 0, .null, .null, .null, .null])), (q1, .inl (d, 16, .inl (fun _ => 0))), (q2, .inl (d, 16, .inl (fun _ => 0))), (q3, .inl (d, 2, .inl (fun _ => 0))), (q4, .inl (d, 2, .inl (fun _ => 0))), (q6, .inl (d, 256, .inl (fun _ => 0))), (q7, .inl (d, 256, .inl (fun _ => 0)))] H := hP
  have hD : va_D A [(h0, .inr (0, [.int 0, .ref q1, .ref q2, .ref q3, .ref q4, .int 0, .ref q6, .ref q7, .null, .null, .null, .int 0, .null, .null, .null, .null])), (q1, .inl (d, 16, .inl (fun _ => 0))), (q2, .inl (d, 16, .inl (fun _ => 0))), (q3, .inl (d, 2, .inl (fun _ => 0))), (q4, .inl (d, 2, .inl (fun _ => 0))), (q6, .inl (d, 256, .inl (fun _ => 0))), (q7, .inl (d, 256, .inl (fun _ => 0)))] := hD
  refine lv_aload_n hx hb dX0_init_52 rfl (lv_at hl 0 rfl) ?_
  refine lv_sipush (v := nI 256) hx hb dX0_init_53 (by decide) ?_
  refine cz_step okX0 hx hb hts hown hin hA hK hP hD hS 8 256 (by decide) rfl rfl rfl (Nat.le_of_ble_eq_true rfl) (by decide) q46 (Nat.le_of_ble_eq_true rfl) (Nat.le_of_ble_eq_true rfl) dX0_init_56 dX0_init_58 (fun q8 H locs hP hD hS => ?_)
  have hP : va_P D vwCl [(h0, .inr (0, [.int 0, .ref q1, .ref q2, .ref q3, .ref q4, .int 0, .ref q6, .ref q7, .ref q8, .null, .null, .int 0, .null, .null, .null, .null])), (q1, .inl (d, 16, .inl (fun _ => 0))), (q2, .inl (d, 16, .inl (fun _ => 0))), (q3, .inl (d, 2, .inl (fun _ => 0))), (q4, .inl (d, 2, .inl (fun _ => 0))), (q6, .inl (d, 256, .inl (fun _ => 0))), (q7, .inl (d, 256, .inl (fun _ => 0))), (q8, .inl (d, 256, .inl (fun _ => 0)))] H := hP
  have hD : va_D A [(h0, .inr (0, [.int 0, .ref q1, .ref q2, .ref q3, .ref q4, .int 0, .ref q6, .ref q7, .ref q8, .null, .null, .int 0, .null, .null, .null, .null])), (q1, .inl (d, 16, .inl (fun _ => 0))), (q2, .inl (d, 16, .inl (fun _ => 0))), (q3, .inl (d, 2, .inl (fun _ => 0))), (q4, .inl (d, 2, .inl (fun _ => 0))), (q6, .inl (d, 256, .inl (fun _ => 0))), (q7, .inl (d, 256, .inl (fun _ => 0))), (q8, .inl (d, 256, .inl (fun _ => 0)))] := hD
  refine lv_aload_n hx hb dX0_init_61 rfl (lv_at hl 0 rfl) ?_
  refine lv_sipush (v := nI 256) hx hb dX0_init_62 (by decide) ?_
  refine cz_step okX0 hx hb hts hown hin hA hK hP hD hS 9 256 (by decide) rfl rfl rfl (Nat.le_of_ble_eq_true rfl) (by decide) q47 (Nat.le_of_ble_eq_true rfl) (Nat.le_of_ble_eq_true rfl) dX0_init_65 dX0_init_67 (fun q9 H locs hP hD hS => ?_)
  have hP : va_P D vwCl [(h0, .inr (0, [.int 0, .ref q1, .ref q2, .ref q3, .ref q4, .int 0, .ref q6, .ref q7, .ref q8, .ref q9, .null, .int 0, .null, .null, .null, .null])), (q1, .inl (d, 16, .inl (fun _ => 0))), (q2, .inl (d, 16, .inl (fun _ => 0))), (q3, .inl (d, 2, .inl (fun _ => 0))), (q4, .inl (d, 2, .inl (fun _ => 0))), (q6, .inl (d, 256, .inl (fun _ => 0))), (q7, .inl (d, 256, .inl (fun _ => 0))), (q8, .inl (d, 256, .inl (fun _ => 0))), (q9, .inl (d, 256, .inl (fun _ => 0)))] H := hP
  have hD : va_D A [(h0, .inr (0, [.int 0, .ref q1, .ref q2, .ref q3, .ref q4, .int 0, .ref q6, .ref q7, .ref q8, .ref q9, .null, .int 0, .null, .null, .null, .null])), (q1, .inl (d, 16, .inl (fun _ => 0))), (q2, .inl (d, 16, .inl (fun _ => 0))), (q3, .inl (d, 2, .inl (fun _ => 0))), (q4, .inl (d, 2, .inl (fun _ => 0))), (q6, .inl (d, 256, .inl (fun _ => 0))), (q7, .inl (d, 256, .inl (fun _ => 0))), (q8, .inl (d, 256, .inl (fun _ => 0))), (q9, .inl (d, 256, .inl (fun _ => 0)))] := hD
  refine lv_aload_n hx hb dX0_init_70 rfl (lv_at hl 0 rfl) ?_
  refine lv_bipush (v := nI 16) hx hb dX0_init_71 (by decide) ?_
  refine cz_step okX0 hx hb hts hown hin hA hK hP hD hS 10 16 (by decide) rfl rfl rfl (Nat.le_of_ble_eq_true rfl) (by decide) q48 (Nat.le_of_ble_eq_true rfl) (Nat.le_of_ble_eq_true rfl) dX0_init_73 dX0_init_75 (fun q10 H locs hP hD hS => ?_)
  have hP : va_P D vwCl [(h0, .inr (0, [.int 0, .ref q1, .ref q2, .ref q3, .ref q4, .int 0, .ref q6, .ref q7, .ref q8, .ref q9, .ref q10, .int 0, .null, .null, .null, .null])), (q1, .inl (d, 16, .inl (fun _ => 0))), (q2, .inl (d, 16, .inl (fun _ => 0))), (q3, .inl (d, 2, .inl (fun _ => 0))), (q4, .inl (d, 2, .inl (fun _ => 0))), (q6, .inl (d, 256, .inl (fun _ => 0))), (q7, .inl (d, 256, .inl (fun _ => 0))), (q8, .inl (d, 256, .inl (fun _ => 0))), (q9, .inl (d, 256, .inl (fun _ => 0))), (q10, .inl (d, 16, .inl (fun _ => 0)))] H := hP
  have hD : va_D A [(h0, .inr (0, [.int 0, .ref q1, .ref q2, .ref q3, .ref q4, .int 0, .ref q6, .ref q7, .ref q8, .ref q9, .ref q10, .int 0, .null, .null, .null, .null])), (q1, .inl (d, 16, .inl (fun _ => 0))), (q2, .inl (d, 16, .inl (fun _ => 0))), (q3, .inl (d, 2, .inl (fun _ => 0))), (q4, .inl (d, 2, .inl (fun _ => 0))), (q6, .inl (d, 256, .inl (fun _ => 0))), (q7, .inl (d, 256, .inl (fun _ => 0))), (q8, .inl (d, 256, .inl (fun _ => 0))), (q9, .inl (d, 256, .inl (fun _ => 0))), (q10, .inl (d, 16, .inl (fun _ => 0)))] := hD
  refine lv_aload_n hx hb dX0_init_78 rfl (lv_at hl 0 rfl) ?_
  refine lv_bipush (v := nI 16) hx hb dX0_init_79 (by decide) ?_
  refine cz_step okX0 hx hb hts hown hin hA hK hP hD hS 12 16 (by decide) rfl rfl rfl (Nat.le_of_ble_eq_true rfl) (by decide) q50 (Nat.le_of_ble_eq_true rfl) (Nat.le_of_ble_eq_true rfl) dX0_init_81 dX0_init_83 (fun q12 H locs hP hD hS => ?_)
  have hP : va_P D vwCl [(h0, .inr (0, [.int 0, .ref q1, .ref q2, .ref q3, .ref q4, .int 0, .ref q6, .ref q7, .ref q8, .ref q9, .ref q10, .int 0, .ref q12, .null, .null, .null])), (q1, .inl (d, 16, .inl (fun _ => 0))), (q2, .inl (d, 16, .inl (fun _ => 0))), (q3, .inl (d, 2, .inl (fun _ => 0))), (q4, .inl (d, 2, .inl (fun _ => 0))), (q6, .inl (d, 256, .inl (fun _ => 0))), (q7, .inl (d, 256, .inl (fun _ => 0))), (q8, .inl (d, 256, .inl (fun _ => 0))), (q9, .inl (d, 256, .inl (fun _ => 0))), (q10, .inl (d, 16, .inl (fun _ => 0))), (q12, .inl (d, 16, .inl (fun _ => 0)))] H := hP
  have hD : va_D A [(h0, .inr (0, [.int 0, .ref q1, .ref q2, .ref q3, .ref q4, .int 0, .ref q6, .ref q7, .ref q8, .ref q9, .ref q10, .int 0, .ref q12, .null, .null, .null])), (q1, .inl (d, 16, .inl (fun _ => 0))), (q2, .inl (d, 16, .inl (fun _ => 0))), (q3, .inl (d, 2, .inl (fun _ => 0))), (q4, .inl (d, 2, .inl (fun _ => 0))), (q6, .inl (d, 256, .inl (fun _ => 0))), (q7, .inl (d, 256, .inl (fun _ => 0))), (q8, .inl (d, 256, .inl (fun _ => 0))), (q9, .inl (d, 256, .inl (fun _ => 0))), (q10, .inl (d, 16, .inl (fun _ => 0))), (q12, .inl (d, 16, .inl (fun _ => 0)))] := hD
  refine lv_aload_n hx hb dX0_init_86 rfl (lv_at hl 0 rfl) ?_
  refine lv_bipush (v := nI 16) hx hb dX0_init_87 (by decide) ?_
  refine cz_step okX0 hx hb hts hown hin hA hK hP hD hS 13 16 (by decide) rfl rfl rfl (Nat.le_of_ble_eq_true rfl) (by decide) q51 (Nat.le_of_ble_eq_true rfl) (Nat.le_of_ble_eq_true rfl) dX0_init_89 dX0_init_91 (fun q13 H locs hP hD hS => ?_)
  have hP : va_P D vwCl [(h0, .inr (0, [.int 0, .ref q1, .ref q2, .ref q3, .ref q4, .int 0, .ref q6, .ref q7, .ref q8, .ref q9, .ref q10, .int 0, .ref q12, .ref q13, .null, .null])), (q1, .inl (d, 16, .inl (fun _ => 0))), (q2, .inl (d, 16, .inl (fun _ => 0))), (q3, .inl (d, 2, .inl (fun _ => 0))), (q4, .inl (d, 2, .inl (fun _ => 0))), (q6, .inl (d, 256, .inl (fun _ => 0))), (q7, .inl (d, 256, .inl (fun _ => 0))), (q8, .inl (d, 256, .inl (fun _ => 0))), (q9, .inl (d, 256, .inl (fun _ => 0))), (q10, .inl (d, 16, .inl (fun _ => 0))), (q12, .inl (d, 16, .inl (fun _ => 0))), (q13, .inl (d, 16, .inl (fun _ => 0)))] H := hP
  have hD : va_D A [(h0, .inr (0, [.int 0, .ref q1, .ref q2, .ref q3, .ref q4, .int 0, .ref q6, .ref q7, .ref q8, .ref q9, .ref q10, .int 0, .ref q12, .ref q13, .null, .null])), (q1, .inl (d, 16, .inl (fun _ => 0))), (q2, .inl (d, 16, .inl (fun _ => 0))), (q3, .inl (d, 2, .inl (fun _ => 0))), (q4, .inl (d, 2, .inl (fun _ => 0))), (q6, .inl (d, 256, .inl (fun _ => 0))), (q7, .inl (d, 256, .inl (fun _ => 0))), (q8, .inl (d, 256, .inl (fun _ => 0))), (q9, .inl (d, 256, .inl (fun _ => 0))), (q10, .inl (d, 16, .inl (fun _ => 0))), (q12, .inl (d, 16, .inl (fun _ => 0))), (q13, .inl (d, 16, .inl (fun _ => 0)))] := hD
  refine lv_aload_n hx hb dX0_init_94 rfl (lv_at hl 0 rfl) ?_
  refine lv_bipush (v := nI 16) hx hb dX0_init_95 (by decide) ?_
  refine cz_step okX0 hx hb hts hown hin hA hK hP hD hS 14 16 (by decide) rfl rfl rfl (Nat.le_of_ble_eq_true rfl) (by decide) q52 (Nat.le_of_ble_eq_true rfl) (Nat.le_of_ble_eq_true rfl) dX0_init_97 dX0_init_99 (fun q14 H locs hP hD hS => ?_)
  have hP : va_P D vwCl [(h0, .inr (0, [.int 0, .ref q1, .ref q2, .ref q3, .ref q4, .int 0, .ref q6, .ref q7, .ref q8, .ref q9, .ref q10, .int 0, .ref q12, .ref q13, .ref q14, .null])), (q1, .inl (d, 16, .inl (fun _ => 0))), (q2, .inl (d, 16, .inl (fun _ => 0))), (q3, .inl (d, 2, .inl (fun _ => 0))), (q4, .inl (d, 2, .inl (fun _ => 0))), (q6, .inl (d, 256, .inl (fun _ => 0))), (q7, .inl (d, 256, .inl (fun _ => 0))), (q8, .inl (d, 256, .inl (fun _ => 0))), (q9, .inl (d, 256, .inl (fun _ => 0))), (q10, .inl (d, 16, .inl (fun _ => 0))), (q12, .inl (d, 16, .inl (fun _ => 0))), (q13, .inl (d, 16, .inl (fun _ => 0))), (q14, .inl (d, 16, .inl (fun _ => 0)))] H := hP
  have hD : va_D A [(h0, .inr (0, [.int 0, .ref q1, .ref q2, .ref q3, .ref q4, .int 0, .ref q6, .ref q7, .ref q8, .ref q9, .ref q10, .int 0, .ref q12, .ref q13, .ref q14, .null])), (q1, .inl (d, 16, .inl (fun _ => 0))), (q2, .inl (d, 16, .inl (fun _ => 0))), (q3, .inl (d, 2, .inl (fun _ => 0))), (q4, .inl (d, 2, .inl (fun _ => 0))), (q6, .inl (d, 256, .inl (fun _ => 0))), (q7, .inl (d, 256, .inl (fun _ => 0))), (q8, .inl (d, 256, .inl (fun _ => 0))), (q9, .inl (d, 256, .inl (fun _ => 0))), (q10, .inl (d, 16, .inl (fun _ => 0))), (q12, .inl (d, 16, .inl (fun _ => 0))), (q13, .inl (d, 16, .inl (fun _ => 0))), (q14, .inl (d, 16, .inl (fun _ => 0)))] := hD
  refine lv_aload_n hx hb dX0_init_102 rfl (lv_at hl 0 rfl) ?_
  refine lv_bipush (v := nI 16) hx hb dX0_init_103 (by decide) ?_
  refine cz_step okX0 hx hb hts hown hin hA hK hP hD hS 15 16 (by decide) rfl rfl rfl (Nat.le_of_ble_eq_true rfl) (by decide) q53 (Nat.le_of_ble_eq_true rfl) (Nat.le_of_ble_eq_true rfl) dX0_init_105 dX0_init_107 (fun q15 H locs hP hD hS => ?_)
  have hP : va_P D vwCl [(h0, .inr (0, [.int 0, .ref q1, .ref q2, .ref q3, .ref q4, .int 0, .ref q6, .ref q7, .ref q8, .ref q9, .ref q10, .int 0, .ref q12, .ref q13, .ref q14, .ref q15])), (q1, .inl (d, 16, .inl (fun _ => 0))), (q2, .inl (d, 16, .inl (fun _ => 0))), (q3, .inl (d, 2, .inl (fun _ => 0))), (q4, .inl (d, 2, .inl (fun _ => 0))), (q6, .inl (d, 256, .inl (fun _ => 0))), (q7, .inl (d, 256, .inl (fun _ => 0))), (q8, .inl (d, 256, .inl (fun _ => 0))), (q9, .inl (d, 256, .inl (fun _ => 0))), (q10, .inl (d, 16, .inl (fun _ => 0))), (q12, .inl (d, 16, .inl (fun _ => 0))), (q13, .inl (d, 16, .inl (fun _ => 0))), (q14, .inl (d, 16, .inl (fun _ => 0))), (q15, .inl (d, 16, .inl (fun _ => 0)))] H := hP
  have hD : va_D A [(h0, .inr (0, [.int 0, .ref q1, .ref q2, .ref q3, .ref q4, .int 0, .ref q6, .ref q7, .ref q8, .ref q9, .ref q10, .int 0, .ref q12, .ref q13, .ref q14, .ref q15])), (q1, .inl (d, 16, .inl (fun _ => 0))), (q2, .inl (d, 16, .inl (fun _ => 0))), (q3, .inl (d, 2, .inl (fun _ => 0))), (q4, .inl (d, 2, .inl (fun _ => 0))), (q6, .inl (d, 256, .inl (fun _ => 0))), (q7, .inl (d, 256, .inl (fun _ => 0))), (q8, .inl (d, 256, .inl (fun _ => 0))), (q9, .inl (d, 256, .inl (fun _ => 0))), (q10, .inl (d, 16, .inl (fun _ => 0))), (q12, .inl (d, 16, .inl (fun _ => 0))), (q13, .inl (d, 16, .inl (fun _ => 0))), (q14, .inl (d, 16, .inl (fun _ => 0))), (q15, .inl (d, 16, .inl (fun _ => 0)))] := hD
  refine W.widen (k := 13) (n := 1140) (Nat.le_of_ble_eq_true rfl) (Nat.le_of_ble_eq_true rfl) ?_
  obtain ⟨h, hh⟩ : ∃ h : Nat → Nat, h = cz_h [h0, q1, q2, q3, q4, 0, q6, q7, q8, q9, q10, 0, q12, q13, q14, q15] := ⟨_, rfl⟩
  have hP9 : va_P D (tz_cl IX0) (tz_ws IX0 h d (fun _ _ => 0)) H := by rw [hh]; exact hP
  have hD9 : va_D A (tz_ws IX0 h d (fun _ _ => 0)) := by rw [hh]; exact hD
  have h00 : h 0 = h0 := by rw [hh]; rfl
  subst h00
  clear hh
  refine lv_aload_n hx hb dX0_init_110 rfl (lv_at hl 0 rfl) ?_
  refine cz_getA okX0 hx hb hts hown hK hP9 4 dX0_init_111 rfl q42 ?_
  refine lv_iconst (v := nI 0) hx hb dX0_init_114 (by decide) ?_
  refine lv_bipush (v := nI 15) hx hb dX0_init_115 (by decide) ?_
  refine cz_iast (j := 0) okX0 hx hb hK hP9 hD9 hS dX0_init_117 rfl (by decide) (fun H locs hP hD hS => ?_)
  refine lv_aload_n hx hb dX0_init_118 rfl (lv_at hl 0 rfl) ?_
  refine cz_getA okX0 hx hb hts hown hK hP 4 dX0_init_119 rfl q42 ?_
  refine lv_iconst (v := nI 1) hx hb dX0_init_122 (by decide) ?_
  refine lv_bipush (v := nI 15) hx hb dX0_init_123 (by decide) ?_
  refine cz_iast (j := 1) okX0 hx hb hK hP hD hS dX0_init_125 rfl (by decide) (fun H locs hP hD hS => ?_)
  exact W.vret hx hb hr (fun t ht hW => ⟨⟨(h, d), rfl, rfl, by rw [ht]; exact hP, va_K.moved hW.alike hK, hD⟩, hS.F ht⟩) hS.2.2 dX0_init_126
abbrev fs0X1 : List Value := [.int 0, .null, .null, .null, .null, .int 0, .null, .null, .null, .null, .null, .null, .int 0]
abbrev wnX1 (h0 : Nat) : va_W := [(h0, .inr (1, fs0X1))]
def tz_NX1 : Room := { frames := 1, cells := 10, slots := 1092, locals := 12 }
set_option maxHeartbeats 4000000 in
theorem nX1_init (l : Launch) (D : va_G) (h0 sz : Nat) : Met l yX1_init (ws_ yX1_init cX1_init 1 none) tz_NX1 (va_Pc [.ref h0] (fun U => U.heap.size = sz ∧ va_P D vwCl (wnX1 h0) U.heap ∧ va_K D vwCl [] U ∧ va_D (fun _ => True) (wnX1 h0))) (va_Qv (fun u : (Nat → Nat) × ClassId => u.1 0 = h0) (fun u t => va_P D vwCl (wrldX1 u.1 u.2 cz_a) t.heap ∧ va_K D vwCl [(u.2, .int)] t ∧ va_D (va_A (wnX1 h0) sz) (wrldX1 u.1 u.2 cz_a)) (va_A (wnX1 h0) sz)) 10 1092 (va_A (wnX1 h0) sz) := by
  refine Met.ofW (cc := cX1_init) (maxL := 1) (ret := none) (by decide) rfl ?_
  intro p e s m args below meth c s₁ B hml hv
  obtain ⟨rfl, hsz, hP, hK, hD0⟩ := hv
  have hx := B.exec
  have hb := B.bytes
  have hr := B.returns
  have hts := atoms_spec (ws := ws_ yX1_init cX1_init 1 none) B.pre
  have hts : ∀ w ∈ lw_all, w.before _ s = true := fun w h => hts w (List.mem_cons_of_mem _ h)
  have hown : s.vm.findClass RX1 = some m.cls := findClass_of_methodNamed B.named
  have hlocks := B.notSynchronized
  have hin : meth.name = "<init>" := (name_of_methodNamed B.named B.method).1
  subst hsz
  have hD := hD0.self (sz := s.heap.size)
  have hA : ∀ q : Nat, s.heap.size ≤ q → va_A (wnX1 h0) s.heap.size q := fun q h => Or.inr h
  generalize va_A (wnX1 h0) s.heap.size = A at hD hA ⊢
  have hS : va_S A s.heap s.heap [] := va_S.rf
  obtain ⟨d, hd⟩ := cz_int (hts _ q87)
  have hK := cz_K hK hd
  have hl := lv_entry ([.ref h0]) (n := 1) (Nat.le_of_ble_eq_true rfl)
  rw [lg_entry_eq]
  generalize (lg_sl ([.ref h0]) ++ List.replicate (1 - (lg_sl ([.ref h0])).length) Slot.unset).toArray = ls at hl ⊢
  have hl : lv_has ls 1 [(0, .ref h0)] := hl
  refine lv_aload_n hx hb dX1_init_0 rfl (lv_at hl 0 rfl) ?_
  refine W.objInit hx hb hown (hts _ q225) (hts _ q36) (hts _ q37) rfl (by rw [hml]; exact hl.1) rfl dX1_init_1 (Nat.le_of_ble_eq_true rfl) (Nat.le_of_ble_eq_true rfl) ?_
  refine W.eq (g2 := F0 m 4 ls []) rfl ?_
  refine lv_aload_n hx hb dX1_init_4 rfl (lv_at hl 0 rfl) ?_
  refine lv_bipush (v := nI 16) hx hb dX1_init_5 (by decide) ?_
  refine cz_step okX1 hx hb hts hown hin hA hK hP hD hS 1 16 (by decide) rfl rfl rfl (Nat.le_of_ble_eq_true rfl) (by decide) q227 (Nat.le_of_ble_eq_true rfl) (Nat.le_of_ble_eq_true rfl) dX1_init_7 dX1_init_9 (fun q1 H locs hP hD hS => ?_)
  have hP : va_P D vwCl [(h0, .inr (1, [.int 0, .ref q1, .null, .null, .null, .int 0, .null, .null, .null, .null, .null, .null, .int 0])), (q1, .inl (d, 16, .inl (fun _ => 0)))] H := hP
  have hD : va_D A [(h0, .inr (1, [.int 0, .ref q1, .null, .null, .null, .int 0, .null, .null, .null, .null, .null, .null, .int 0])), (q1, .inl (d, 16, .inl (fun _ => 0)))] := hD
  refine lv_aload_n hx hb dX1_init_12 rfl (lv_at hl 0 rfl) ?_
  refine lv_bipush (v := nI 16) hx hb dX1_init_13 (by decide) ?_
  refine cz_step okX1 hx hb hts hown hin hA hK hP hD hS 2 16 (by decide) rfl rfl rfl (Nat.le_of_ble_eq_true rfl) (by decide) q228 (Nat.le_of_ble_eq_true rfl) (Nat.le_of_ble_eq_true rfl) dX1_init_15 dX1_init_17 (fun q2 H locs hP hD hS => ?_)
  have hP : va_P D vwCl [(h0, .inr (1, [.int 0, .ref q1, .ref q2, .null, .null, .int 0, .null, .null, .null, .null, .null, .null, .int 0])), (q1, .inl (d, 16, .inl (fun _ => 0))), (q2, .inl (d, 16, .inl (fun _ => 0)))] H := hP
  have hD : va_D A [(h0, .inr (1, [.int 0, .ref q1, .ref q2, .null, .null, .int 0, .null, .null, .null, .null, .null, .null, .int 0])), (q1, .inl (d, 16, .inl (fun _ => 0))), (q2, .inl (d, 16, .inl (fun _ => 0)))] := hD
  refine lv_aload_n hx hb dX1_init_20 rfl (lv_at hl 0 rfl) ?_
  refine lv_iconst (v := nI 2) hx hb dX1_init_21 (by decide) ?_
  refine cz_step okX1 hx hb hts hown hin hA hK hP hD hS 3 2 (by decide) rfl rfl rfl (Nat.le_of_ble_eq_true rfl) (by decide) q229 (Nat.le_of_ble_eq_true rfl) (Nat.le_of_ble_eq_true rfl) dX1_init_22 dX1_init_24 (fun q3 H locs hP hD hS => ?_)
  have hP : va_P D vwCl [(h0, .inr (1, [.int 0, .ref q1, .ref q2, .ref q3, .null, .int 0, .null, .null, .null, .null, .null, .null, .int 0])), (q1, .inl (d, 16, .inl (fun _ => 0))), (q2, .inl (d, 16, .inl (fun _ => 0))), (q3, .inl (d, 2, .inl (fun _ => 0)))] H := hP
  have hD : va_D A [(h0, .inr (1, [.int 0, .ref q1, .ref q2, .ref q3, .null, .int 0, .null, .null, .null, .null, .null, .null, .int 0])), (q1, .inl (d, 16, .inl (fun _ => 0))), (q2, .inl (d, 16, .inl (fun _ => 0))), (q3, .inl (d, 2, .inl (fun _ => 0)))] := hD
  refine lv_aload_n hx hb dX1_init_27 rfl (lv_at hl 0 rfl) ?_
  refine lv_iconst (v := nI 2) hx hb dX1_init_28 (by decide) ?_
  refine cz_step okX1 hx hb hts hown hin hA hK hP hD hS 4 2 (by decide) rfl rfl rfl (Nat.le_of_ble_eq_true rfl) (by decide) q230 (Nat.le_of_ble_eq_true rfl) (Nat.le_of_ble_eq_true rfl) dX1_init_29 dX1_init_31 (fun q4 H locs hP hD hS => ?_)
  have hP : va_P D vwCl [(h0, .inr (1, [.int 0, .ref q1, .ref q2, .ref q3, .ref q4, .int 0, .null, .null, .null, .null, .null, .null, .int 0])), (q1, .inl (d, 16, .inl (fun _ => 0))), (q2, .inl (d, 16, .inl (fun _ => 0))), (q3, .inl (d, 2, .inl (fun _ => 0))), (q4, .inl (d, 2, .inl (fun _ => 0)))] H := hP
  have hD : va_D A [(h0, .inr (1, [.int 0, .ref q1, .ref q2, .ref q3, .ref q4, .int 0, .null, .null, .null, .null, .null, .null, .int 0])), (q1, .inl (d, 16, .inl (fun _ => 0))), (q2, .inl (d, 16, .inl (fun _ => 0))), (q3, .inl (d, 2, .inl (fun _ => 0))), (q4, .inl (d, 2, .inl (fun _ => 0)))] := hD
  refine lv_aload_n hx hb dX1_init_34 rfl (lv_at hl 0 rfl) ?_
  refine lv_sipush (v := nI 256) hx hb dX1_init_35 (by decide) ?_
  refine cz_step okX1 hx hb hts hown hin hA hK hP hD hS 6 256 (by decide) rfl rfl rfl (Nat.le_of_ble_eq_true rfl) (by decide) q232 (Nat.le_of_ble_eq_true rfl) (Nat.le_of_ble_eq_true rfl) dX1_init_38 dX1_init_40 (fun q6 H locs hP hD hS => ?_)
  have hP : va_P D vwCl [(h0, .inr (1, [.int 0, .ref q1, .ref q2, .ref q3, .ref q4, .int 0, .ref q6, .null, .null, .null, .null, .null, .int 0])), (q1, .inl (d, 16, .inl (fun _ => 0))), (q2, .inl (d, 16, .inl (fun _ => 0))), (q3, .inl (d, 2, .inl (fun _ => 0))), (q4, .inl (d, 2, .inl (fun _ => 0))), (q6, .inl (d, 256, .inl (fun _ => 0)))] H := hP
  have hD : va_D A [(h0, .inr (1, [.int 0, .ref q1, .ref q2, .ref q3, .ref q4, .int 0, .ref q6, .null, .null, .null, .null, .null, .int 0])), (q1, .inl (d, 16, .inl (fun _ => 0))), (q2, .inl (d, 16, .inl (fun _ => 0))), (q3, .inl (d, 2, .inl (fun _ => 0))), (q4, .inl (d, 2, .inl (fun _ => 0))), (q6, .inl (d, 256, .inl (fun _ => 0)))] := hD
  refine lv_aload_n hx hb dX1_init_43 rfl (lv_at hl 0 rfl) ?_
  refine lv_sipush (v := nI 256) hx hb dX1_init_44 (by decide) ?_
  refine cz_step okX1 hx hb hts hown hin hA hK hP hD hS 7 256 (by decide) rfl rfl rfl (Nat.le_of_ble_eq_true rfl) (by decide) q233 (Nat.le_of_ble_eq_true rfl) (Nat.le_of_ble_eq_true rfl) dX1_init_47 dX1_init_49 (fun q7 H locs hP hD hS => ?_)
  have hP : va_P D vwCl [(h0, .inr (1, [.int 0, .ref q1, .ref q2, .ref q3, .ref q4, .int 0, .ref q6, .ref q7, .null, .null, .null, .null, .int 0])), (q1, .inl (d, 16, .inl (fun _ => 0))), (q2, .inl (d, 16, .inl (fun _ => 0))), (q3, .inl (d, 2, .inl (fun _ => 0))), (q4, .inl (d, 2, .inl (fun _ => 0))), (q6, .inl (d, 256, .inl (fun _ => 0))), (q7, .inl (d, 256, .inl (fun _ => 0)))] H := hP
  have hD : va_D A [(h0, .inr (1, [.int 0, .ref q1, .ref q2, .ref q3, .ref q4, .int 0, .ref q6, .ref q7, .null, .null, .null, .null, .int 0])), (q1, .inl (d, 16, .inl (fun _ => 0))), (q2, .inl (d, 16, .inl (fun _ => 0))), (q3, .inl (d, 2, .inl (fun _ => 0))), (q4, .inl (d, 2, .inl (fun _ => 0))), (q6, .inl (d, 256, .inl (fun _ => 0))), (q7, .inl (d, 256, .inl (fun _ => 0)))] := hD
  refine lv_aload_n hx hb dX1_init_52 rfl (lv_at hl 0 rfl) ?_
  refine lv_sipush (v := nI 256) hx hb dX1_init_53 (by decide) ?_
  refine cz_step okX1 hx hb hts hown hin hA hK hP hD hS 8 256 (by decide) rfl rfl rfl (Nat.le_of_ble_eq_true rfl) (by decide) q234 (Nat.le_of_ble_eq_true rfl) (Nat.le_of_ble_eq_true rfl) dX1_init_56 dX1_init_58 (fun q8 H locs hP hD hS => ?_)
  have hP : va_P D vwCl [(h0, .inr (1, [.int 0, .ref q1, .ref q2, .ref q3, .ref q4, .int 0, .ref q6, .ref q7, .ref q8, .null, .null, .null, .int 0])), (q1, .inl (d, 16, .inl (fun _ => 0))), (q2, .inl (d, 16, .inl (fun _ => 0))), (q3, .inl (d, 2, .inl (fun _ => 0))), (q4, .inl (d, 2, .inl (fun _ => 0))), (q6, .inl (d, 256, .inl (fun _ => 0))), (q7, .inl (d, 256, .inl (fun _ => 0))), (q8, .inl (d, 256, .inl (fun _ => 0)))] H := hP
  have hD : va_D A [(h0, .inr (1, [.int 0, .ref q1, .ref q2, .ref q3, .ref q4, .int 0, .ref q6, .ref q7, .ref q8, .null, .null, .null, .int 0])), (q1, .inl (d, 16, .inl (fun _ => 0))), (q2, .inl (d, 16, .inl (fun _ => 0))), (q3, .inl (d, 2, .inl (fun _ => 0))), (q4, .inl (d, 2, .inl (fun _ => 0))), (q6, .inl (d, 256, .inl (fun _ => 0))), (q7, .inl (d, 256, .inl (fun _ => 0))), (q8, .inl (d, 256, .inl (fun _ => 0)))] := hD
  refine lv_aload_n hx hb dX1_init_61 rfl (lv_at hl 0 rfl) ?_
  refine lv_sipush (v := nI 256) hx hb dX1_init_62 (by decide) ?_
  refine cz_step okX1 hx hb hts hown hin hA hK hP hD hS 9 256 (by decide) rfl rfl rfl (Nat.le_of_ble_eq_true rfl) (by decide) q235 (Nat.le_of_ble_eq_true rfl) (Nat.le_of_ble_eq_true rfl) dX1_init_65 dX1_init_67 (fun q9 H locs hP hD hS => ?_)
  have hP : va_P D vwCl [(h0, .inr (1, [.int 0, .ref q1, .ref q2, .ref q3, .ref q4, .int 0, .ref q6, .ref q7, .ref q8, .ref q9, .null, .null, .int 0])), (q1, .inl (d, 16, .inl (fun _ => 0))), (q2, .inl (d, 16, .inl (fun _ => 0))), (q3, .inl (d, 2, .inl (fun _ => 0))), (q4, .inl (d, 2, .inl (fun _ => 0))), (q6, .inl (d, 256, .inl (fun _ => 0))), (q7, .inl (d, 256, .inl (fun _ => 0))), (q8, .inl (d, 256, .inl (fun _ => 0))), (q9, .inl (d, 256, .inl (fun _ => 0)))] H := hP
  have hD : va_D A [(h0, .inr (1, [.int 0, .ref q1, .ref q2, .ref q3, .ref q4, .int 0, .ref q6, .ref q7, .ref q8, .ref q9, .null, .null, .int 0])), (q1, .inl (d, 16, .inl (fun _ => 0))), (q2, .inl (d, 16, .inl (fun _ => 0))), (q3, .inl (d, 2, .inl (fun _ => 0))), (q4, .inl (d, 2, .inl (fun _ => 0))), (q6, .inl (d, 256, .inl (fun _ => 0))), (q7, .inl (d, 256, .inl (fun _ => 0))), (q8, .inl (d, 256, .inl (fun _ => 0))), (q9, .inl (d, 256, .inl (fun _ => 0)))] := hD
  refine lv_aload_n hx hb dX1_init_70 rfl (lv_at hl 0 rfl) ?_
  refine lv_bipush (v := nI 16) hx hb dX1_init_71 (by decide) ?_
  refine cz_step okX1 hx hb hts hown hin hA hK hP hD hS 10 16 (by decide) rfl rfl rfl (Nat.le_of_ble_eq_true rfl) (by decide) q236 (Nat.le_of_ble_eq_true rfl) (Nat.le_of_ble_eq_true rfl) dX1_init_73 dX1_init_75 (fun q10 H locs hP hD hS => ?_)
  have hP : va_P D vwCl [(h0, .inr (1, [.int 0, .ref q1, .ref q2, .ref q3, .ref q4, .int 0, .ref q6, .ref q7, .ref q8, .ref q9, .ref q10, .null, .int 0])), (q1, .inl (d, 16, .inl (fun _ => 0))), (q2, .inl (d, 16, .inl (fun _ => 0))), (q3, .inl (d, 2, .inl (fun _ => 0))), (q4, .inl (d, 2, .inl (fun _ => 0))), (q6, .inl (d, 256, .inl (fun _ => 0))), (q7, .inl (d, 256, .inl (fun _ => 0))), (q8, .inl (d, 256, .inl (fun _ => 0))), (q9, .inl (d, 256, .inl (fun _ => 0))), (q10, .inl (d, 16, .inl (fun _ => 0)))] H := hP
  have hD : va_D A [(h0, .inr (1, [.int 0, .ref q1, .ref q2, .ref q3, .ref q4, .int 0, .ref q6, .ref q7, .ref q8, .ref q9, .ref q10, .null, .int 0])), (q1, .inl (d, 16, .inl (fun _ => 0))), (q2, .inl (d, 16, .inl (fun _ => 0))), (q3, .inl (d, 2, .inl (fun _ => 0))), (q4, .inl (d, 2, .inl (fun _ => 0))), (q6, .inl (d, 256, .inl (fun _ => 0))), (q7, .inl (d, 256, .inl (fun _ => 0))), (q8, .inl (d, 256, .inl (fun _ => 0))), (q9, .inl (d, 256, .inl (fun _ => 0))), (q10, .inl (d, 16, .inl (fun _ => 0)))] := hD
  refine lv_aload_n hx hb dX1_init_78 rfl (lv_at hl 0 rfl) ?_
  refine lv_bipush (v := nI 16) hx hb dX1_init_79 (by decide) ?_
  refine cz_step okX1 hx hb hts hown hin hA hK hP hD hS 11 16 (by decide) rfl rfl rfl (Nat.le_of_ble_eq_true rfl) (by decide) q237 (Nat.le_of_ble_eq_true rfl) (Nat.le_of_ble_eq_true rfl) dX1_init_81 dX1_init_83 (fun q11 H locs hP hD hS => ?_)
  have hP : va_P D vwCl [(h0, .inr (1, [.int 0, .ref q1, .ref q2, .ref q3, .ref q4, .int 0, .ref q6, .ref q7, .ref q8, .ref q9, .ref q10, .ref q11, .int 0])), (q1, .inl (d, 16, .inl (fun _ => 0))), (q2, .inl (d, 16, .inl (fun _ => 0))), (q3, .inl (d, 2, .inl (fun _ => 0))), (q4, .inl (d, 2, .inl (fun _ => 0))), (q6, .inl (d, 256, .inl (fun _ => 0))), (q7, .inl (d, 256, .inl (fun _ => 0))), (q8, .inl (d, 256, .inl (fun _ => 0))), (q9, .inl (d, 256, .inl (fun _ => 0))), (q10, .inl (d, 16, .inl (fun _ => 0))), (q11, .inl (d, 16, .inl (fun _ => 0)))] H := hP
  have hD : va_D A [(h0, .inr (1, [.int 0, .ref q1, .ref q2, .ref q3, .ref q4, .int 0, .ref q6, .ref q7, .ref q8, .ref q9, .ref q10, .ref q11, .int 0])), (q1, .inl (d, 16, .inl (fun _ => 0))), (q2, .inl (d, 16, .inl (fun _ => 0))), (q3, .inl (d, 2, .inl (fun _ => 0))), (q4, .inl (d, 2, .inl (fun _ => 0))), (q6, .inl (d, 256, .inl (fun _ => 0))), (q7, .inl (d, 256, .inl (fun _ => 0))), (q8, .inl (d, 256, .inl (fun _ => 0))), (q9, .inl (d, 256, .inl (fun _ => 0))), (q10, .inl (d, 16, .inl (fun _ => 0))), (q11, .inl (d, 16, .inl (fun _ => 0)))] := hD
  refine W.widen (k := 10) (n := 1092) (Nat.le_of_ble_eq_true rfl) (Nat.le_of_ble_eq_true rfl) ?_
  obtain ⟨h, hh⟩ : ∃ h : Nat → Nat, h = cz_h [h0, q1, q2, q3, q4, 0, q6, q7, q8, q9, q10, q11, 0] := ⟨_, rfl⟩
  have hP9 : va_P D (tz_cl IX1) (tz_ws IX1 h d (fun _ _ => 0)) H := by rw [hh]; exact hP
  have hD9 : va_D A (tz_ws IX1 h d (fun _ _ => 0)) := by rw [hh]; exact hD
  have h00 : h 0 = h0 := by rw [hh]; rfl
  subst h00
  clear hh
  refine lv_aload_n hx hb dX1_init_86 rfl (lv_at hl 0 rfl) ?_
  refine cz_getA okX1 hx hb hts hown hK hP9 4 dX1_init_87 rfl q230 ?_
  refine lv_iconst (v := nI 0) hx hb dX1_init_90 (by decide) ?_
  refine lv_bipush (v := nI 15) hx hb dX1_init_91 (by decide) ?_
  refine cz_iast (j := 0) okX1 hx hb hK hP9 hD9 hS dX1_init_93 rfl (by decide) (fun H locs hP hD hS => ?_)
  refine lv_aload_n hx hb dX1_init_94 rfl (lv_at hl 0 rfl) ?_
  refine cz_getA okX1 hx hb hts hown hK hP 4 dX1_init_95 rfl q230 ?_
  refine lv_iconst (v := nI 1) hx hb dX1_init_98 (by decide) ?_
  refine lv_bipush (v := nI 15) hx hb dX1_init_99 (by decide) ?_
  refine cz_iast (j := 1) okX1 hx hb hK hP hD hS dX1_init_101 rfl (by decide) (fun H locs hP hD hS => ?_)
  exact W.vret hx hb hr (fun t ht hW => ⟨⟨(h, d), rfl, rfl, by rw [ht]; exact hP, va_K.moved hW.alike hK, hD⟩, hS.F ht⟩) hS.2.2 dX1_init_102
end
section
set_option maxRecDepth 100000
/-! THE CLAIM OUT OF ONE WALK OF THE LAW'S BODY. Your part is whole_start (and what it stands on); all else here is the same for every law, but numbers. -/
def R_law : String := "TrapProverLaw"
def lw_P (b : Addr) (xs : List Int32) (args : Array Value) (s : State) : Prop := args = #[.ref b] ∧ s.IntsAt b xs ∧ xs.length ≤ 256 ∧ (Jvm.Cond.and given_1 narrow_1).before args s = true
def lw_Q (_ : Array Value) (s : State) (o : Outcome) (t : State) : Prop := o = .returned (some (.int 1)) ∧ Framed s o t [] 600000 7290000
def lw_Z (below : List Frame) (a : Array Value) (s : State) : State → Prop := fun t => ∃ o, t.status = .running ∧ Ended t below o ∧ lw_Q a s o t
/-- the law's own end, with 1 on the stack, nothing written that was there before, its room as the claim has it -/
theorem lw_ret {p : Program} {l : Launch} {e : Env} {s : State} {m : MethodId} {below : List Frame} {meth : Method} {c : Code} {b : Nat} (hx : p.tables.exec = Jvm.exec) (hb : c.code = code) (hr : meth.sig.returnType = ret) (hlocks : meth.locks = false) {pc : Nat} {H : Heap} {ls : Array Slot} (hdg : decode code pc = .ok (.ireturn, 1)) : W p l e room_1 s m #[Value.ref b] below meth c H [] 600000 7290000 (lw_Z below #[Value.ref b] s) (F0 m pc ls [.int 1]) := by
  intro T hT X
  obtain ⟨fs, hret, hrun, hended, hW, hframe⟩ := X.leave (v := some (.int 1)) (hlocks := hlocks) (fun h => by rw [hr] at h; cases h)
  have hmeth' : T.vm.method? m = some meth := X.method'
  refine ⟨T.setFrames fs, ?_, .returned (some (.int 1)), hrun, hended, rfl, ⟨_, rfl⟩, hW, hframe⟩
  jvm_step X.here [X.here.top, hx, hb, hdg, hmeth', hr, ret, narrow_b1]
  (try refine ⟨rfl, ?_⟩); (try refine ⟨rfl, ?_⟩)
  first | (intro acts; rw [hret _ acts rfl rfl rfl]) | rw [hret _ _ rfl rfl rfl]
  exact Steps.refl _
/-- what holds at the law's entry: the machine, the code, the tables' words (any of lw_tbl by 'hts w (by decide +kernel)'), the script of L ints xs at the cell b, what the Statement gives of the start (any of its parts by flat_of_before) -/
def lw_At (p : Program) (s : State) (m : MethodId) (meth : Method) (c : Code) (b L : Nat) (xs : Nat → Int32) : Prop :=
  p.tables.exec = Jvm.exec ∧ c.code = code ∧ meth.sig.returnType = ret ∧ c.maxLocals = 4 ∧ s.vm.findClass R_law = some m.cls ∧ (∀ w ∈ lw_tbl, w.before #[Value.ref b] s = true) ∧ va_X b L xs s s.heap ∧ b < s.heap.size ∧ meth.locks = false ∧ (Jvm.Cond.and given_1 narrow_1).before #[Value.ref b] s = true
end
section
/-! THE LAW's rows: two objects, one world -/
set_option maxRecDepth 100000
section
variable {D : va_G} {cl : List vw_C} {w0 w1 wc wr : va_W} {H H1 : Heap} {A A0 : Nat → Prop}
theorem lz_l {k : Nat} {q : Nat × va_E} (h : w0[k]? = some q) : (w0 ++ w1)[k]? = some q := by rw [List.getElem?_append_left (List.getElem?_eq_some_iff.mp h).1]; exact h
theorem lz_r {k : Nat} {q : Nat × va_E} (h : w1[k]? = some q) : (w0 ++ w1)[w0.length + k]? = some q := by rw [List.getElem?_append_right (Nat.le_add_right _ _), Nat.add_sub_cancel_left]; exact h
theorem lz_Pl (h : va_P D cl (w0 ++ w1) H) : va_P D cl w0 H := fun k q hk => h k q (lz_l hk)
theorem lz_Pr (h : va_P D cl (w0 ++ w1) H) : va_P D cl w1 H := fun k q hk => h (w0.length + k) q (lz_r hk)
theorem lz_Dl (h : va_D A (w0 ++ w1)) : va_D A w0 := ⟨fun i j p q hi hj e => h.1 i j p q (lz_l hi) (lz_l hj) e, fun k q hk => h.2 k q (lz_l hk)⟩
theorem lz_Dr (h : va_D A (w0 ++ w1)) : va_D A w1 := ⟨fun i j p q hi hj e => Nat.add_left_cancel (h.1 (w0.length + i) (w0.length + j) p q (lz_r hi) (lz_r hj) e), fun k q hk => h.2 (w0.length + k) q (lz_r hk)⟩
theorem lz_Dx (h : va_D A (w0 ++ w1)) : ∀ (i j : Nat) (p q : Nat × va_E), w0[i]? = some p → w1[j]? = some q → p.1 ≠ q.1 := fun i j p q hi hj e => by
  have h1 := h.1 i (w0.length + j) p q (lz_l hi) (lz_r hj) e
  have h2 := (List.getElem?_eq_some_iff.mp hi).1
  omega
theorem lz_Ps (h : va_P D cl (w0 ++ w1) H) : va_P D cl (w1 ++ w0) H := va_P.app (lz_Pr h) (lz_Pl h)
theorem lz_Ds (h : va_D A (w0 ++ w1)) : va_D A (w1 ++ w0) := va_D.app (lz_Dr h) (lz_Dl h) (fun i j p q hi hj e => lz_Dx h j i q p hj hi e.symm)
/-- behind a call on the cells wc: what came back, beside the rest, which is unchanged -/
theorem lz_join (hP : va_P D cl (wc ++ wr) H) (hD : va_D A0 (wc ++ wr)) (hk : ∀ q : Nat, q < H.size → ¬ va_A wc H.size q → H1[q]? = H[q]?) (hF : ∀ q, va_A wc H.size q → A0 q) (hP1 : va_P D cl w1 H1) (hD1 : va_D (va_A wc H.size) w1) : va_P D cl (w1 ++ wr) H1 ∧ va_D A0 (w1 ++ wr) := by
  have apart : ∀ (k : Nat) (q : Nat × va_E), wr[k]? = some q → q.1 < H.size ∧ ¬ va_A wc H.size q.1 := by
    intro k q hq
    have hl := (lz_Pr hP k q hq).lt
    refine ⟨hl, ?_⟩
    rintro (⟨k2, e, h⟩ | h)
    · exact lz_Dx hD k2 k (q.1, e) q h hq rfl
    · omega
  exact ⟨va_P.app hP1 (fun k q hq => (lz_Pr hP k q hq).kept (hk q.1 (apart k q hq).1 (apart k q hq).2)), va_D.app (hD1.weaken (fun k q _ h => hF q.1 h)) (lz_Dr hD) (fun i j x y hx hy hxy => (apart j y hy).2 (by rw [← hxy]; exact hD1.2 i x hx))⟩
end
/-- the run of the law: machine; the two objects' places; the script -/
abbrev lz_E : Type := (Program × Launch × Env × State × MethodId × List Frame × Method × Code) × (va_G × (Nat → Nat) × (Nat → Nat) × ClassId) × (Nat × Nat × (Nat → Int32))
def lz_A (E : lz_E) : Nat → Prop := fun q => E.1.2.2.2.1.heap.size ≤ q
def lz_w (E : lz_E) (a b : tz_S) : va_W := wrldX0 E.2.1.2.1 E.2.1.2.2.2 a ++ wrldX1 E.2.1.2.2.1 E.2.1.2.2.2 b
def lz_lv (E : lz_E) (i : Nat) : List (Option Value) := [some (.ref E.2.2.1), some (.ref (E.2.1.2.1 0)), some (.ref (E.2.1.2.2.1 0)), some (.int (nI i))]
def lz_Z (E : lz_E) (pc i : Nat) (st : List Value) (a b : tz_S) : Prop :=
  ∀ (H : Heap) (locs : List Loc) (ls : Array Slot), va_P E.2.1.1 vwCl (lz_w E a b) H → va_D (lz_A E) (lz_w E a b) → va_S (lz_A E) E.1.2.2.2.1.heap H locs → tz_zl ls 4 (lz_lv E i) →
    W E.1.1 E.1.2.1 E.1.2.2.1 room_1 E.1.2.2.2.1 E.1.2.2.2.2.1 #[Value.ref E.2.2.1] E.1.2.2.2.2.2.1 E.1.2.2.2.2.2.2.1 E.1.2.2.2.2.2.2.2 H locs 25 2261 (lw_Z E.1.2.2.2.2.2.1 #[Value.ref E.2.2.1] E.1.2.2.2.1) (F0 E.1.2.2.2.2.1 pc ls st)
def lz_C (E : lz_E) : Prop := lw_At E.1.1 E.1.2.2.2.1 E.1.2.2.2.2.1 E.1.2.2.2.2.2.2.1 E.1.2.2.2.2.2.2.2 E.2.2.1 E.2.2.2.1 E.2.2.2.2 ∧ E.2.2.2.1 ≤ 256 ∧ va_K E.2.1.1 vwCl [(E.2.1.2.2.2, .int)] E.1.2.2.2.1
theorem lz_cmp {L i : Nat} (hL : L ≤ 256) (hi : i ≤ 260) : nI L - nI 4 < nI i ↔ L < i + 4 := by
  rcases Nat.lt_or_ge L 4 with h | h
  · have h1 : nI L - nI 4 < 0 := by
      rcases (show L = 0 ∨ L = 1 ∨ L = 2 ∨ L = 3 by omega) with rfl | rfl | rfl | rfl <;> decide
    exact ⟨fun _ => by omega, fun _ => Int32.lt_of_lt_of_le h1 (nI_pos' (by omega))⟩
  · rw [pk_sub h, nI_ltI (by omega) (by omega)]
    omega
section
variable {E : lz_E} {pc i : Nat} {st : List Value} {a b : tz_S}
theorem lz_ws (C : lz_C E) : ∀ w ∈ lw_all, w.before #[Value.ref E.2.2.1] E.1.2.2.2.1 = true := fun w h => C.1.2.2.2.2.2.1 w (lw_all_tbl h)
theorem lz_bA (C : lz_C E) : ¬ lz_A E E.2.2.1 := Nat.not_le.mpr C.1.2.2.2.2.2.2.2.1
theorem lz_aload1 (C : lz_C E) (dd : decode code pc = .ok (.aload_n 1, 1)) (K : lz_Z E (pc + 1) i (.ref (E.2.1.2.1 0) :: st) a b) : lz_Z E pc i st a b := fun H locs ls hP hD hS hl => lv_aload_n C.1.1 C.1.2.1 dd rfl (tz_zl_at hl 1 rfl) (K H locs ls hP hD hS hl)
theorem lz_aload2 (C : lz_C E) (dd : decode code pc = .ok (.aload_n 2, 1)) (K : lz_Z E (pc + 1) i (.ref (E.2.1.2.2.1 0) :: st) a b) : lz_Z E pc i st a b := fun H locs ls hP hD hS hl => lv_aload_n C.1.1 C.1.2.1 dd rfl (tz_zl_at hl 2 rfl) (K H locs ls hP hD hS hl)
theorem lz_arg (C : lz_C E) (hi : i + 4 ≤ E.2.2.2.1) (k : Nat) (hk : k < 4) {n : Int} (hn : Int32.ofInt n = nI k) (d1 : decode code pc = .ok (.aload_n 0, 1)) (d2 : decode code (pc + 1) = .ok (.iload_n 3, 1)) (d3 : decode code (pc + 2) = .ok (.iconst n, 1)) (d4 : decode code (pc + 3) = .ok (.iadd, 1)) (d5 : decode code (pc + 4) = .ok (.iaload, 1)) (K : lz_Z E (pc + 5) i (.int (E.2.2.2.2 (i + k)) :: st) a b) : lz_Z E pc i st a b := by
  intro H locs ls hP hD hS hl
  have hL := C.2.1
  refine lv_aload_n C.1.1 C.1.2.1 d1 rfl (tz_zl_at hl 0 rfl) ?_
  refine lv_iload_n C.1.1 C.1.2.1 d2 rfl (tz_zl_at hl 3 rfl) ?_
  refine lv_iconst (v := nI k) C.1.1 C.1.2.1 d3 hn ?_
  refine lv_iadd C.1.1 C.1.2.1 d4 ?_
  rw [nI_add]
  refine va_sld (A := lz_A E) C.1.1 C.1.2.1 C.1.2.2.2.2.2.2.1 C.1.2.2.2.2.2.2.2.1 (lz_bA C) hS (vp_in_nI (by omega) (by omega)) d5 ?_
  rw [nI_clamp (by omega)]
  exact K H locs ls hP hD hS hl
theorem lz_eq (C : lz_C E) {r r' : Int32} (h : r = r') {off : Int} {tgt : Nat} (dd : decode code pc = .ok (.if_icmp .eq off, 3)) (ht : (pc : Int) + off = (tgt : Int)) (K : lz_Z E tgt i st a b) : lz_Z E pc i (.int r' :: .int r :: st) a b := fun H locs ls hP hD hS hl => lv_icmp_eq C.1.1 C.1.2.1 dd ht (fun _ => K H locs ls hP hD hS hl) (fun q => absurd h q)
theorem lz_goto (C : lz_C E) {off : Int} {tgt : Nat} (dd : decode code pc = .ok (.goto off, 3)) (ht : (pc : Int) + off = (tgt : Int)) (K : lz_Z E tgt i st a b) : lz_Z E pc i st a b := fun H locs ls hP hD hS hl => lv_goto C.1.1 C.1.2.1 dd ht (K H locs ls hP hD hS hl)
theorem lz_next (C : lz_C E) (K : lz_Z E 18 (i + 4) [] a b) : lz_Z E 417 i [] a b := by
  intro H locs ls hP hD hS hl
  obtain ⟨q, hq⟩ := List.getElem?_of_mem (tz_zL_mem (lv := lz_lv E i) (i := 3) (v := .int (nI i)) rfl)
  exact lv_iinc (i := 3) (v := nI (i + 4)) C.1.1 C.1.2.1 dL_law_417 (tz_zl_has hl) hq (by rw [show Int32.ofInt 4 = nI 4 by decide, nI_add]) (by decide) rfl (fun ls' h' => lv_goto (tgt := 18) C.1.1 C.1.2.1 dL_law_420 (by decide) (K H locs ls' hP hD hS (tz_zl_set hl rfl h')))
theorem lz_exit (C : lz_C E) : lz_Z E 423 i [] a b := fun H locs ls hP hD hS hl => lv_iconst (v := 1) C.1.1 C.1.2.1 dL_law_423 (by decide) (va_forget hS.2.2 (W.widen (Nat.le_of_ble_eq_true rfl) (Nat.le_of_ble_eq_true rfl) (lw_ret C.1.1 C.1.2.1 C.1.2.2.1 C.1.2.2.2.2.2.2.2.2.1 dL_law_424)))
theorem lz_head (C : lz_C E) (hi : i ≤ 260) (kt : E.2.2.2.1 < i + 4 → lz_Z E 423 i [] a b) (kf : i + 4 ≤ E.2.2.2.1 → lz_Z E 26 i [] a b) : lz_Z E 18 i [] a b := by
  intro H locs ls hP hD hS hl
  have hL := C.2.1
  refine lv_iload_n C.1.1 C.1.2.1 dL_law_18 rfl (tz_zl_at hl 3 rfl) ?_
  refine lv_aload_n C.1.1 C.1.2.1 dL_law_19 rfl (tz_zl_at hl 0 rfl) ?_
  refine va_slen (A := lz_A E) C.1.1 C.1.2.1 C.1.2.2.2.2.2.2.1 C.1.2.2.2.2.2.2.2.1 (lz_bA C) hS dL_law_20 ?_
  refine lv_iconst (v := nI 4) C.1.1 C.1.2.1 dL_law_21 (by decide) ?_
  refine lv_isub C.1.1 C.1.2.1 dL_law_22 ?_
  refine lv_icmp_gt (tgt := 423) C.1.1 C.1.2.1 dL_law_23 (by decide) (fun q => kt ((lz_cmp hL hi).mp q) H locs ls hP hD hS hl) (fun q => kf ?_ H locs ls hP hD hS hl)
  exact Nat.not_lt.mp (fun z => q ((lz_cmp hL hi).mpr z))
theorem lz_sw (C : lz_C E) (hi : i + 4 ≤ E.2.2.2.1) (K : lz_Z E 32 i [.int (nI (tp_lo (E.2.2.2.2 i)))] a b) : lz_Z E 26 i [] a b := by
  intro H locs ls hP hD hS hl
  have hL := C.2.1
  refine lv_aload_n C.1.1 C.1.2.1 dL_law_26 rfl (tz_zl_at hl 0 rfl) ?_
  refine lv_iload_n C.1.1 C.1.2.1 dL_law_27 rfl (tz_zl_at hl 3 rfl) ?_
  refine va_sld (A := lz_A E) C.1.1 C.1.2.1 C.1.2.2.2.2.2.2.1 C.1.2.2.2.2.2.2.2.1 (lz_bA C) hS (vp_in_nI (by omega) (by omega)) dL_law_28 ?_
  rw [nI_clamp (by omega)]
  refine lv_bipush (v := nI 15) C.1.1 C.1.2.1 dL_law_29 (by decide) ?_
  refine lv_iand C.1.1 C.1.2.1 dL_law_31 ?_
  rw [tp_and15]
  exact K H locs ls hP hD hS hl
theorem lz_tsw (C : lz_C E) {dflt lo hi : Int} {offs : Array Int} {len : Nat} {x : Int32} {off : Int} {tgt : Nat} (d : decode code pc = .ok (.tableswitch dflt lo hi offs, len)) (h1 : ¬ x.toInt < lo) (h2 : ¬ hi < x.toInt) (ho : offs[(x.toInt - lo).toNat]? = some off) (ht : (pc : Int) + off = (tgt : Int)) (K : lz_Z E tgt i st a b) : lz_Z E pc i (.int x :: st) a b := fun H locs ls hP hD hS hl => lv_tableIn C.1.1 C.1.2.1 d h1 h2 ho ht (K H locs ls hP hD hS hl)
theorem lz_tsd (C : lz_C E) {dflt lo hi : Int} {offs : Array Int} {len : Nat} {x : Int32} {tgt : Nat} (d : decode code pc = .ok (.tableswitch dflt lo hi offs, len)) (h : x.toInt < lo ∨ hi < x.toInt) (ht : (pc : Int) + dflt = (tgt : Int)) (K : lz_Z E tgt i st a b) : lz_Z E pc i (.int x :: st) a b := fun H locs ls hP hD hS hl => lv_tableOut C.1.1 C.1.2.1 d h ht (K H locs ls hP hD hS hl)
variable {y : MethodName} {cc' : ByteArray} {nL k' n idx : Nat} {rt : FieldType} {ys : List Int32}
theorem lz_callX0 (C : lz_C E) {post : Int32 → tz_S → Prop} (V : tz_V "TrapProverLaw" IX0 idx y cc' nL (some rt) k' n) (M : tz_Mi IX0 y cc' nL rt k' ys a post) (hn : ys.length = n) (hk : k' + 1 ≤ 12) (hL : 8 + (nL + 11) + 38 * k' ≤ 466) (hst : (st.map fun v => v.category).sum ≤ 8) (dd : decode code pc = .ok (.invokevirtual idx, 3)) {st0 : List Value} (hs : st0 = (ys.map Value.int).reverse ++ .ref (E.2.1.2.1 0) :: st) (K : ∀ (r : Int32) (u : tz_S), post r u → lz_Z E (pc + 3) i (.int r :: st) u b) : lz_Z E pc i st0 a b := by
  intro H locs ls hP hD hS hl
  subst hs
  have hts := lz_ws C
  have hPs : va_P E.2.1.1 vwCl (wrldX0 E.2.1.2.1 E.2.1.2.2.2 a ++ wrldX1 E.2.1.2.2.1 E.2.1.2.2.2 b) H := hP
  have hDs : va_D (lz_A E) (wrldX0 E.2.1.2.1 E.2.1.2.2.2 a ++ wrldX1 E.2.1.2.2.1 E.2.1.2.2.2 b) := hD
  have hPc := lz_Pl hPs
  have hDc := lz_Dl hDs
  have hF : ∀ q, va_A (wrldX0 E.2.1.2.1 E.2.1.2.2.2 a) H.size q → lz_A E q := fun q hq => by
    rcases hq with ⟨p, e, hp⟩ | hq
    · exact hDc.2 p _ hp
    · exact Nat.le_trans hS.1 hq
  refine va_calli (va_runV (As := ys.map Value.int) (rest := st) ⟨C.1.1, C.1.2.1, C.1.2.2.2.1, C.1.2.2.2.2.1, hts⟩ (M E.1.2.1 E.2.1.1 (E.2.1.2.1) E.2.1.2.2.2 H.size) (V hts hk hL) ⟨tz_blind IX0 _ _ _ _ _ _, va_recv C.2.2 hPc okX0.2.2.2.1 (q0 := 0) rfl, fun U hU hW => ⟨rfl, by rw [hU], by rw [hU]; exact hPc, va_K.moved hW.alike C.2.2, hDc.weaken (fun _ _ _ _ => trivial)⟩⟩ rfl (by rw [List.length_map]; exact hn) hl.1 rfl (lv_room hst) dd ⟨Nat.le_of_ble_eq_true rfl, Nat.le_of_ble_eq_true rfl⟩) hS (fun q _ h => hF q h) hF (fun r u t H1 locs1 ht hvm hp hB hz hk1 hS1 => ?_)
  obtain ⟨b1, b2, b3⟩ := hB
  rw [ht] at b1
  obtain ⟨hP1, hD1⟩ := lz_join hPs hDs hk1 hF b1 b3
  exact K r u hp H1 locs1 ls hP1 hD1 hS1 hl
theorem lz_callvX0 (C : lz_C E) {post : tz_S → Prop} (V : tz_V "TrapProverLaw" IX0 idx y cc' nL none k' n) (M : tz_Mv IX0 y cc' nL k' ys a post) (hn : ys.length = n) (hk : k' + 1 ≤ 12) (hL : 8 + (nL + 11) + 38 * k' ≤ 466) (hst : (st.map fun v => v.category).sum ≤ 8) (dd : decode code pc = .ok (.invokevirtual idx, 3)) {st0 : List Value} (hs : st0 = (ys.map Value.int).reverse ++ .ref (E.2.1.2.1 0) :: st) (K : ∀ (u : tz_S), post u → lz_Z E (pc + 3) i st u b) : lz_Z E pc i st0 a b := by
  intro H locs ls hP hD hS hl
  subst hs
  have hts := lz_ws C
  have hPs : va_P E.2.1.1 vwCl (wrldX0 E.2.1.2.1 E.2.1.2.2.2 a ++ wrldX1 E.2.1.2.2.1 E.2.1.2.2.2 b) H := hP
  have hDs : va_D (lz_A E) (wrldX0 E.2.1.2.1 E.2.1.2.2.2 a ++ wrldX1 E.2.1.2.2.1 E.2.1.2.2.2 b) := hD
  have hPc := lz_Pl hPs
  have hDc := lz_Dl hDs
  have hF : ∀ q, va_A (wrldX0 E.2.1.2.1 E.2.1.2.2.2 a) H.size q → lz_A E q := fun q hq => by
    rcases hq with ⟨p, e, hp⟩ | hq
    · exact hDc.2 p _ hp
    · exact Nat.le_trans hS.1 hq
  refine va_callv (va_runV (As := ys.map Value.int) (rest := st) ⟨C.1.1, C.1.2.1, C.1.2.2.2.1, C.1.2.2.2.2.1, hts⟩ (M E.1.2.1 E.2.1.1 (E.2.1.2.1) E.2.1.2.2.2 H.size) (V hts hk hL) ⟨tz_blind IX0 _ _ _ _ _ _, va_recv C.2.2 hPc okX0.2.2.2.1 (q0 := 0) rfl, fun U hU hW => ⟨rfl, by rw [hU], by rw [hU]; exact hPc, va_K.moved hW.alike C.2.2, hDc.weaken (fun _ _ _ _ => trivial)⟩⟩ rfl (by rw [List.length_map]; exact hn) hl.1 rfl (lv_room hst) dd ⟨Nat.le_of_ble_eq_true rfl, Nat.le_of_ble_eq_true rfl⟩) hS (fun q _ h => hF q h) hF (fun u t H1 locs1 ht hvm hp hB hz hk1 hS1 => ?_)
  obtain ⟨b1, b2, b3⟩ := hB
  rw [ht] at b1
  obtain ⟨hP1, hD1⟩ := lz_join hPs hDs hk1 hF b1 b3
  exact K u hp H1 locs1 ls hP1 hD1 hS1 hl
theorem lz_callX1 (C : lz_C E) {post : Int32 → tz_S → Prop} (V : tz_V "TrapProverLaw" IX1 idx y cc' nL (some rt) k' n) (M : tz_Mi IX1 y cc' nL rt k' ys b post) (hn : ys.length = n) (hk : k' + 1 ≤ 12) (hL : 8 + (nL + 11) + 38 * k' ≤ 466) (hst : (st.map fun v => v.category).sum ≤ 8) (dd : decode code pc = .ok (.invokevirtual idx, 3)) {st0 : List Value} (hs : st0 = (ys.map Value.int).reverse ++ .ref (E.2.1.2.2.1 0) :: st) (K : ∀ (r : Int32) (u : tz_S), post r u → lz_Z E (pc + 3) i (.int r :: st) a u) : lz_Z E pc i st0 a b := by
  intro H locs ls hP hD hS hl
  subst hs
  have hts := lz_ws C
  have hPs : va_P E.2.1.1 vwCl (wrldX1 E.2.1.2.2.1 E.2.1.2.2.2 b ++ wrldX0 E.2.1.2.1 E.2.1.2.2.2 a) H := lz_Ps hP
  have hDs : va_D (lz_A E) (wrldX1 E.2.1.2.2.1 E.2.1.2.2.2 b ++ wrldX0 E.2.1.2.1 E.2.1.2.2.2 a) := lz_Ds hD
  have hPc := lz_Pl hPs
  have hDc := lz_Dl hDs
  have hF : ∀ q, va_A (wrldX1 E.2.1.2.2.1 E.2.1.2.2.2 b) H.size q → lz_A E q := fun q hq => by
    rcases hq with ⟨p, e, hp⟩ | hq
    · exact hDc.2 p _ hp
    · exact Nat.le_trans hS.1 hq
  refine va_calli (va_runV (As := ys.map Value.int) (rest := st) ⟨C.1.1, C.1.2.1, C.1.2.2.2.1, C.1.2.2.2.2.1, hts⟩ (M E.1.2.1 E.2.1.1 (E.2.1.2.2.1) E.2.1.2.2.2 H.size) (V hts hk hL) ⟨tz_blind IX1 _ _ _ _ _ _, va_recv C.2.2 hPc okX1.2.2.2.1 (q0 := 0) rfl, fun U hU hW => ⟨rfl, by rw [hU], by rw [hU]; exact hPc, va_K.moved hW.alike C.2.2, hDc.weaken (fun _ _ _ _ => trivial)⟩⟩ rfl (by rw [List.length_map]; exact hn) hl.1 rfl (lv_room hst) dd ⟨Nat.le_of_ble_eq_true rfl, Nat.le_of_ble_eq_true rfl⟩) hS (fun q _ h => hF q h) hF (fun r u t H1 locs1 ht hvm hp hB hz hk1 hS1 => ?_)
  obtain ⟨b1, b2, b3⟩ := hB
  rw [ht] at b1
  obtain ⟨hP1, hD1⟩ := lz_join hPs hDs hk1 hF b1 b3
  exact K r u hp H1 locs1 ls (lz_Ps hP1) (lz_Ds hD1) hS1 hl
theorem lz_callvX1 (C : lz_C E) {post : tz_S → Prop} (V : tz_V "TrapProverLaw" IX1 idx y cc' nL none k' n) (M : tz_Mv IX1 y cc' nL k' ys b post) (hn : ys.length = n) (hk : k' + 1 ≤ 12) (hL : 8 + (nL + 11) + 38 * k' ≤ 466) (hst : (st.map fun v => v.category).sum ≤ 8) (dd : decode code pc = .ok (.invokevirtual idx, 3)) {st0 : List Value} (hs : st0 = (ys.map Value.int).reverse ++ .ref (E.2.1.2.2.1 0) :: st) (K : ∀ (u : tz_S), post u → lz_Z E (pc + 3) i st a u) : lz_Z E pc i st0 a b := by
  intro H locs ls hP hD hS hl
  subst hs
  have hts := lz_ws C
  have hPs : va_P E.2.1.1 vwCl (wrldX1 E.2.1.2.2.1 E.2.1.2.2.2 b ++ wrldX0 E.2.1.2.1 E.2.1.2.2.2 a) H := lz_Ps hP
  have hDs : va_D (lz_A E) (wrldX1 E.2.1.2.2.1 E.2.1.2.2.2 b ++ wrldX0 E.2.1.2.1 E.2.1.2.2.2 a) := lz_Ds hD
  have hPc := lz_Pl hPs
  have hDc := lz_Dl hDs
  have hF : ∀ q, va_A (wrldX1 E.2.1.2.2.1 E.2.1.2.2.2 b) H.size q → lz_A E q := fun q hq => by
    rcases hq with ⟨p, e, hp⟩ | hq
    · exact hDc.2 p _ hp
    · exact Nat.le_trans hS.1 hq
  refine va_callv (va_runV (As := ys.map Value.int) (rest := st) ⟨C.1.1, C.1.2.1, C.1.2.2.2.1, C.1.2.2.2.2.1, hts⟩ (M E.1.2.1 E.2.1.1 (E.2.1.2.2.1) E.2.1.2.2.2 H.size) (V hts hk hL) ⟨tz_blind IX1 _ _ _ _ _ _, va_recv C.2.2 hPc okX1.2.2.2.1 (q0 := 0) rfl, fun U hU hW => ⟨rfl, by rw [hU], by rw [hU]; exact hPc, va_K.moved hW.alike C.2.2, hDc.weaken (fun _ _ _ _ => trivial)⟩⟩ rfl (by rw [List.length_map]; exact hn) hl.1 rfl (lv_room hst) dd ⟨Nat.le_of_ble_eq_true rfl, Nat.le_of_ble_eq_true rfl⟩) hS (fun q _ h => hF q h) hF (fun u t H1 locs1 ht hvm hp hB hz hk1 hS1 => ?_)
  obtain ⟨b1, b2, b3⟩ := hB
  rw [ht] at b1
  obtain ⟨hP1, hD1⟩ := lz_join hPs hDs hk1 hF b1 b3
  exact K u hp H1 locs1 ls (lz_Ps hP1) (lz_Ds hD1) hS1 hl
end
theorem lz_cX0_0 {E : lz_E} {pc i : Nat} {st : List Value} {a b : tz_S} {y : MethodName} {cc' : ByteArray} {nL k' idx : Nat} {rt : FieldType} (C : lz_C E) {post : Int32 → tz_S → Prop} (V : tz_V "TrapProverLaw" IX0 idx y cc' nL (some rt) k' 0) (M : tz_Mi IX0 y cc' nL rt k' [] a post) (dd : decode code pc = .ok (.invokevirtual idx, 3)) (K : ∀ (r : Int32) (u : tz_S), post r u → lz_Z E (pc + 3) i (.int r :: st) u b) (hk : k' + 1 ≤ 12 := by decide) (hL : 8 + (nL + 11) + 38 * k' ≤ 466 := by decide) (hst : (st.map fun v => v.category).sum ≤ 8 := by exact Nat.le_of_ble_eq_true rfl) : lz_Z E pc i (.ref (E.2.1.2.1 0) :: st) a b := lz_callX0 C V M rfl hk hL hst dd rfl K
theorem lz_cX0_1 {E : lz_E} {pc i : Nat} {st : List Value} {a b : tz_S} {y : MethodName} {cc' : ByteArray} {nL k' idx : Nat} {rt : FieldType} (C : lz_C E) {x0 : Int32} {post : Int32 → tz_S → Prop} (V : tz_V "TrapProverLaw" IX0 idx y cc' nL (some rt) k' 1) (M : tz_Mi IX0 y cc' nL rt k' [x0] a post) (dd : decode code pc = .ok (.invokevirtual idx, 3)) (K : ∀ (r : Int32) (u : tz_S), post r u → lz_Z E (pc + 3) i (.int r :: st) u b) (hk : k' + 1 ≤ 12 := by decide) (hL : 8 + (nL + 11) + 38 * k' ≤ 466 := by decide) (hst : (st.map fun v => v.category).sum ≤ 8 := by exact Nat.le_of_ble_eq_true rfl) : lz_Z E pc i (.int x0 :: .ref (E.2.1.2.1 0) :: st) a b := lz_callX0 C V M rfl hk hL hst dd rfl K
theorem lz_cX0_2 {E : lz_E} {pc i : Nat} {st : List Value} {a b : tz_S} {y : MethodName} {cc' : ByteArray} {nL k' idx : Nat} {rt : FieldType} (C : lz_C E) {x0 x1 : Int32} {post : Int32 → tz_S → Prop} (V : tz_V "TrapProverLaw" IX0 idx y cc' nL (some rt) k' 2) (M : tz_Mi IX0 y cc' nL rt k' [x0, x1] a post) (dd : decode code pc = .ok (.invokevirtual idx, 3)) (K : ∀ (r : Int32) (u : tz_S), post r u → lz_Z E (pc + 3) i (.int r :: st) u b) (hk : k' + 1 ≤ 12 := by decide) (hL : 8 + (nL + 11) + 38 * k' ≤ 466 := by decide) (hst : (st.map fun v => v.category).sum ≤ 8 := by exact Nat.le_of_ble_eq_true rfl) : lz_Z E pc i (.int x1 :: .int x0 :: .ref (E.2.1.2.1 0) :: st) a b := lz_callX0 C V M rfl hk hL hst dd rfl K
theorem lz_cX0_3 {E : lz_E} {pc i : Nat} {st : List Value} {a b : tz_S} {y : MethodName} {cc' : ByteArray} {nL k' idx : Nat} {rt : FieldType} (C : lz_C E) {x0 x1 x2 : Int32} {post : Int32 → tz_S → Prop} (V : tz_V "TrapProverLaw" IX0 idx y cc' nL (some rt) k' 3) (M : tz_Mi IX0 y cc' nL rt k' [x0, x1, x2] a post) (dd : decode code pc = .ok (.invokevirtual idx, 3)) (K : ∀ (r : Int32) (u : tz_S), post r u → lz_Z E (pc + 3) i (.int r :: st) u b) (hk : k' + 1 ≤ 12 := by decide) (hL : 8 + (nL + 11) + 38 * k' ≤ 466 := by decide) (hst : (st.map fun v => v.category).sum ≤ 8 := by exact Nat.le_of_ble_eq_true rfl) : lz_Z E pc i (.int x2 :: .int x1 :: .int x0 :: .ref (E.2.1.2.1 0) :: st) a b := lz_callX0 C V M rfl hk hL hst dd rfl K
theorem lz_vX0 {E : lz_E} {pc i : Nat} {st : List Value} {a b : tz_S} {y : MethodName} {cc' : ByteArray} {nL k' idx : Nat} (C : lz_C E) {post : tz_S → Prop} (V : tz_V "TrapProverLaw" IX0 idx y cc' nL none k' 0) (M : tz_Mv IX0 y cc' nL k' [] a post) (dd : decode code pc = .ok (.invokevirtual idx, 3)) (K : ∀ (u : tz_S), post u → lz_Z E (pc + 3) i st u b) (hk : k' + 1 ≤ 12 := by decide) (hL : 8 + (nL + 11) + 38 * k' ≤ 466 := by decide) (hst : (st.map fun v => v.category).sum ≤ 8 := by exact Nat.le_of_ble_eq_true rfl) : lz_Z E pc i (.ref (E.2.1.2.1 0) :: st) a b := lz_callvX0 C V M rfl hk hL hst dd rfl K
theorem lz_cX1_0 {E : lz_E} {pc i : Nat} {st : List Value} {a b : tz_S} {y : MethodName} {cc' : ByteArray} {nL k' idx : Nat} {rt : FieldType} (C : lz_C E) {post : Int32 → tz_S → Prop} (V : tz_V "TrapProverLaw" IX1 idx y cc' nL (some rt) k' 0) (M : tz_Mi IX1 y cc' nL rt k' [] b post) (dd : decode code pc = .ok (.invokevirtual idx, 3)) (K : ∀ (r : Int32) (u : tz_S), post r u → lz_Z E (pc + 3) i (.int r :: st) a u) (hk : k' + 1 ≤ 12 := by decide) (hL : 8 + (nL + 11) + 38 * k' ≤ 466 := by decide) (hst : (st.map fun v => v.category).sum ≤ 8 := by exact Nat.le_of_ble_eq_true rfl) : lz_Z E pc i (.ref (E.2.1.2.2.1 0) :: st) a b := lz_callX1 C V M rfl hk hL hst dd rfl K
theorem lz_cX1_1 {E : lz_E} {pc i : Nat} {st : List Value} {a b : tz_S} {y : MethodName} {cc' : ByteArray} {nL k' idx : Nat} {rt : FieldType} (C : lz_C E) {x0 : Int32} {post : Int32 → tz_S → Prop} (V : tz_V "TrapProverLaw" IX1 idx y cc' nL (some rt) k' 1) (M : tz_Mi IX1 y cc' nL rt k' [x0] b post) (dd : decode code pc = .ok (.invokevirtual idx, 3)) (K : ∀ (r : Int32) (u : tz_S), post r u → lz_Z E (pc + 3) i (.int r :: st) a u) (hk : k' + 1 ≤ 12 := by decide) (hL : 8 + (nL + 11) + 38 * k' ≤ 466 := by decide) (hst : (st.map fun v => v.category).sum ≤ 8 := by exact Nat.le_of_ble_eq_true rfl) : lz_Z E pc i (.int x0 :: .ref (E.2.1.2.2.1 0) :: st) a b := lz_callX1 C V M rfl hk hL hst dd rfl K
theorem lz_cX1_2 {E : lz_E} {pc i : Nat} {st : List Value} {a b : tz_S} {y : MethodName} {cc' : ByteArray} {nL k' idx : Nat} {rt : FieldType} (C : lz_C E) {x0 x1 : Int32} {post : Int32 → tz_S → Prop} (V : tz_V "TrapProverLaw" IX1 idx y cc' nL (some rt) k' 2) (M : tz_Mi IX1 y cc' nL rt k' [x0, x1] b post) (dd : decode code pc = .ok (.invokevirtual idx, 3)) (K : ∀ (r : Int32) (u : tz_S), post r u → lz_Z E (pc + 3) i (.int r :: st) a u) (hk : k' + 1 ≤ 12 := by decide) (hL : 8 + (nL + 11) + 38 * k' ≤ 466 := by decide) (hst : (st.map fun v => v.category).sum ≤ 8 := by exact Nat.le_of_ble_eq_true rfl) : lz_Z E pc i (.int x1 :: .int x0 :: .ref (E.2.1.2.2.1 0) :: st) a b := lz_callX1 C V M rfl hk hL hst dd rfl K
theorem lz_cX1_3 {E : lz_E} {pc i : Nat} {st : List Value} {a b : tz_S} {y : MethodName} {cc' : ByteArray} {nL k' idx : Nat} {rt : FieldType} (C : lz_C E) {x0 x1 x2 : Int32} {post : Int32 → tz_S → Prop} (V : tz_V "TrapProverLaw" IX1 idx y cc' nL (some rt) k' 3) (M : tz_Mi IX1 y cc' nL rt k' [x0, x1, x2] b post) (dd : decode code pc = .ok (.invokevirtual idx, 3)) (K : ∀ (r : Int32) (u : tz_S), post r u → lz_Z E (pc + 3) i (.int r :: st) a u) (hk : k' + 1 ≤ 12 := by decide) (hL : 8 + (nL + 11) + 38 * k' ≤ 466 := by decide) (hst : (st.map fun v => v.category).sum ≤ 8 := by exact Nat.le_of_ble_eq_true rfl) : lz_Z E pc i (.int x2 :: .int x1 :: .int x0 :: .ref (E.2.1.2.2.1 0) :: st) a b := lz_callX1 C V M rfl hk hL hst dd rfl K
theorem lz_vX1 {E : lz_E} {pc i : Nat} {st : List Value} {a b : tz_S} {y : MethodName} {cc' : ByteArray} {nL k' idx : Nat} (C : lz_C E) {post : tz_S → Prop} (V : tz_V "TrapProverLaw" IX1 idx y cc' nL none k' 0) (M : tz_Mv IX1 y cc' nL k' [] b post) (dd : decode code pc = .ok (.invokevirtual idx, 3)) (K : ∀ (u : tz_S), post u → lz_Z E (pc + 3) i st a u) (hk : k' + 1 ≤ 12 := by decide) (hL : 8 + (nL + 11) + 38 * k' ≤ 466 := by decide) (hst : (st.map fun v => v.category).sum ≤ 8 := by exact Nat.le_of_ble_eq_true rfl) : lz_Z E pc i (.ref (E.2.1.2.2.1 0) :: st) a b := lz_callvX1 C V M rfl hk hL hst dd rfl K
end
section
/-! THE LAW's loop, a row an operation -/
set_option maxRecDepth 100000
/-- what a turn of the loop asks of the next one -/
def lz_ih (E : lz_E) (j : Nat) : Prop := ∀ (P : tp_P) (a b : tz_S), tp_okP P → tp_V0 P a → tp_V1 P b → lz_Z E 18 j [] a b
theorem law_emit {E : lz_E} {i : Nat} {P : tp_P} {a b : tz_S} (C : lz_C E) (hi : i + 4 ≤ E.2.2.2.1) (ih : lz_ih E (i + 4)) (okP : tp_okP P) (hV0 : tp_V0 P a) (hV1 : tp_V1 P b) : lz_Z E 100 i [] a b := by
  refine lz_aload1 C dL_law_100 ?_
  refine lz_arg (pc := 101) C hi 1 (by decide) (by decide) dL_law_101 dL_law_102 dL_law_103 dL_law_104 dL_law_105 ?_
  refine lz_arg (pc := 106) C hi 2 (by decide) (by decide) dL_law_106 dL_law_107 dL_law_108 dL_law_109 dL_law_110 ?_
  refine lz_cX0_2 (pc := 111) C vLX0_emit (mX0_emit okP _ _ a hV0) dL_law_111 (fun ru u hu => ?_)
  refine lz_aload2 C dL_law_114 ?_
  refine lz_arg (pc := 115) C hi 1 (by decide) (by decide) dL_law_115 dL_law_116 dL_law_117 dL_law_118 dL_law_119 ?_
  refine lz_arg (pc := 120) C hi 2 (by decide) (by decide) dL_law_120 dL_law_121 dL_law_122 dL_law_123 dL_law_124 ?_
  refine lz_cX1_2 (pc := 125) C vLX1_emit (mX1_emit okP _ _ b hV1) dL_law_125 (fun rw w hw => ?_)
  obtain ⟨P1, u1, u2⟩ := hu
  obtain ⟨P2, w1, w2⟩ := hw
  obtain ⟨e, rfl⟩ := tp_emit_one u1 w1
  exact lz_eq (pc := 128) (tgt := 417) C e dL_law_128 (by decide) (lz_next C (ih P1 u w (tp_emit_ok okP u1) u2 w2))
theorem law_patch {E : lz_E} {i : Nat} {P : tp_P} {a b : tz_S} (C : lz_C E) (hi : i + 4 ≤ E.2.2.2.1) (ih : lz_ih E (i + 4)) (okP : tp_okP P) (hV0 : tp_V0 P a) (hV1 : tp_V1 P b) : lz_Z E 133 i [] a b := by
  refine lz_aload1 C dL_law_133 ?_
  refine lz_arg (pc := 134) C hi 1 (by decide) (by decide) dL_law_134 dL_law_135 dL_law_136 dL_law_137 dL_law_138 ?_
  refine lz_arg (pc := 139) C hi 2 (by decide) (by decide) dL_law_139 dL_law_140 dL_law_141 dL_law_142 dL_law_143 ?_
  refine lz_cX0_2 (pc := 144) C vLX0_patch (mX0_patch okP _ _ a hV0) dL_law_144 (fun ru u hu => ?_)
  refine lz_aload2 C dL_law_147 ?_
  refine lz_arg (pc := 148) C hi 1 (by decide) (by decide) dL_law_148 dL_law_149 dL_law_150 dL_law_151 dL_law_152 ?_
  refine lz_arg (pc := 153) C hi 2 (by decide) (by decide) dL_law_153 dL_law_154 dL_law_155 dL_law_156 dL_law_157 ?_
  refine lz_cX1_2 (pc := 158) C vLX1_patch (mX1_patch okP _ _ b hV1) dL_law_158 (fun rw w hw => ?_)
  obtain ⟨P1, u1, u2⟩ := hu
  obtain ⟨P2, w1, w2⟩ := hw
  obtain ⟨e, rfl⟩ := tp_patch_one okP u1 w1
  exact lz_eq (pc := 161) (tgt := 417) C e dL_law_161 (by decide) (lz_next C (ih P1 u w (tp_patch_ok okP u1) u2 w2))
theorem law_begin {E : lz_E} {i : Nat} {P : tp_P} {a b : tz_S} (C : lz_C E) (hi : i + 4 ≤ E.2.2.2.1) (ih : lz_ih E (i + 4)) (okP : tp_okP P) (hV0 : tp_V0 P a) (hV1 : tp_V1 P b) : lz_Z E 166 i [] a b := by
  refine lz_aload1 C dL_law_166 ?_
  refine lz_arg (pc := 167) C hi 1 (by decide) (by decide) dL_law_167 dL_law_168 dL_law_169 dL_law_170 dL_law_171 ?_
  refine lz_arg (pc := 172) C hi 2 (by decide) (by decide) dL_law_172 dL_law_173 dL_law_174 dL_law_175 dL_law_176 ?_
  refine lz_arg (pc := 177) C hi 3 (by decide) (by decide) dL_law_177 dL_law_178 dL_law_179 dL_law_180 dL_law_181 ?_
  refine lz_cX0_3 (pc := 182) C vLX0_begin (mX0_begin okP _ _ _ a hV0) dL_law_182 (fun ru u hu => ?_)
  refine lz_aload2 C dL_law_185 ?_
  refine lz_arg (pc := 186) C hi 1 (by decide) (by decide) dL_law_186 dL_law_187 dL_law_188 dL_law_189 dL_law_190 ?_
  refine lz_arg (pc := 191) C hi 2 (by decide) (by decide) dL_law_191 dL_law_192 dL_law_193 dL_law_194 dL_law_195 ?_
  refine lz_arg (pc := 196) C hi 3 (by decide) (by decide) dL_law_196 dL_law_197 dL_law_198 dL_law_199 dL_law_200 ?_
  refine lz_cX1_3 (pc := 201) C vLX1_begin (mX1_begin okP _ _ _ b hV1) dL_law_201 (fun rw w hw => ?_)
  obtain ⟨P1, u1, u2⟩ := hu
  obtain ⟨P2, w1, w2⟩ := hw
  obtain ⟨e, rfl⟩ := tp_begin_one u1 w1
  exact lz_eq (pc := 204) (tgt := 417) C e dL_law_204 (by decide) (lz_next C (ih P1 u w (tp_begin_ok okP u1) u2 w2))
theorem law_clear {E : lz_E} {i : Nat} {P : tp_P} {a b : tz_S} (C : lz_C E) (hi : i + 4 ≤ E.2.2.2.1) (ih : lz_ih E (i + 4)) (okP : tp_okP P) (hV0 : tp_V0 P a) (hV1 : tp_V1 P b) : lz_Z E 209 i [] a b := by
  refine lz_aload1 C dL_law_209 ?_
  refine lz_vX0 (pc := 210) C vLX0_clear (mX0_clear a hV0) dL_law_210 (fun u hu => ?_)
  refine lz_aload2 C dL_law_213 ?_
  refine lz_vX1 (pc := 214) C vLX1_clear (mX1_clear b hV1) dL_law_214 (fun w hw => ?_)
  exact lz_goto (pc := 217) (tgt := 417) C dL_law_217 (by decide) (lz_next C (ih _ u w (tp_clear_ok okP) hu hw))
theorem law_states {E : lz_E} {i : Nat} {P : tp_P} {a b : tz_S} (C : lz_C E) (hi : i + 4 ≤ E.2.2.2.1) (ih : lz_ih E (i + 4)) (okP : tp_okP P) (hV0 : tp_V0 P a) (hV1 : tp_V1 P b) : lz_Z E 220 i [] a b := by
  refine lz_aload1 C dL_law_220 ?_
  refine lz_arg (pc := 221) C hi 1 (by decide) (by decide) dL_law_221 dL_law_222 dL_law_223 dL_law_224 dL_law_225 ?_
  refine lz_cX0_1 (pc := 226) C vLX0_states (mX0_states okP _ a hV0) dL_law_226 (fun ru u hu => ?_)
  refine lz_aload2 C dL_law_229 ?_
  refine lz_arg (pc := 230) C hi 1 (by decide) (by decide) dL_law_230 dL_law_231 dL_law_232 dL_law_233 dL_law_234 ?_
  refine lz_cX1_1 (pc := 235) C vLX1_states (mX1_states okP _ b hV1) dL_law_235 (fun rw w hw => ?_)
  exact lz_eq (pc := 238) (tgt := 417) C (tp_aStates_one okP hu.1 hw.1) dL_law_238 (by decide) (lz_next C (ih P u w okP hu.2 hw.2))
theorem law_possible {E : lz_E} {i : Nat} {P : tp_P} {a b : tz_S} (C : lz_C E) (hi : i + 4 ≤ E.2.2.2.1) (ih : lz_ih E (i + 4)) (okP : tp_okP P) (hV0 : tp_V0 P a) (hV1 : tp_V1 P b) : lz_Z E 243 i [] a b := by
  refine lz_aload1 C dL_law_243 ?_
  refine lz_arg (pc := 244) C hi 1 (by decide) (by decide) dL_law_244 dL_law_245 dL_law_246 dL_law_247 dL_law_248 ?_
  refine lz_arg (pc := 249) C hi 2 (by decide) (by decide) dL_law_249 dL_law_250 dL_law_251 dL_law_252 dL_law_253 ?_
  refine lz_arg (pc := 254) C hi 3 (by decide) (by decide) dL_law_254 dL_law_255 dL_law_256 dL_law_257 dL_law_258 ?_
  refine lz_cX0_3 (pc := 259) C vLX0_possible (mX0_possible okP _ _ _ a hV0) dL_law_259 (fun ru u hu => ?_)
  refine lz_aload2 C dL_law_262 ?_
  refine lz_arg (pc := 263) C hi 1 (by decide) (by decide) dL_law_263 dL_law_264 dL_law_265 dL_law_266 dL_law_267 ?_
  refine lz_arg (pc := 268) C hi 2 (by decide) (by decide) dL_law_268 dL_law_269 dL_law_270 dL_law_271 dL_law_272 ?_
  refine lz_arg (pc := 273) C hi 3 (by decide) (by decide) dL_law_273 dL_law_274 dL_law_275 dL_law_276 dL_law_277 ?_
  refine lz_cX1_3 (pc := 278) C vLX1_possible (mX1_possible okP _ _ _ b hV1) dL_law_278 (fun rw w hw => ?_)
  exact lz_eq (pc := 281) (tgt := 417) C (tp_aPossible_one okP hu.1 hw.1) dL_law_281 (by decide) (lz_next C (ih P u w okP hu.2 hw.2))
theorem law_values {E : lz_E} {i : Nat} {P : tp_P} {a b : tz_S} (C : lz_C E) (hi : i + 4 ≤ E.2.2.2.1) (ih : lz_ih E (i + 4)) (okP : tp_okP P) (hV0 : tp_V0 P a) (hV1 : tp_V1 P b) : lz_Z E 286 i [] a b := by
  refine lz_aload1 C dL_law_286 ?_
  refine lz_arg (pc := 287) C hi 1 (by decide) (by decide) dL_law_287 dL_law_288 dL_law_289 dL_law_290 dL_law_291 ?_
  refine lz_arg (pc := 292) C hi 2 (by decide) (by decide) dL_law_292 dL_law_293 dL_law_294 dL_law_295 dL_law_296 ?_
  refine lz_cX0_2 (pc := 297) C vLX0_values (mX0_values okP _ _ a hV0) dL_law_297 (fun ru u hu => ?_)
  refine lz_aload2 C dL_law_300 ?_
  refine lz_arg (pc := 301) C hi 1 (by decide) (by decide) dL_law_301 dL_law_302 dL_law_303 dL_law_304 dL_law_305 ?_
  refine lz_arg (pc := 306) C hi 2 (by decide) (by decide) dL_law_306 dL_law_307 dL_law_308 dL_law_309 dL_law_310 ?_
  refine lz_cX1_2 (pc := 311) C vLX1_values (mX1_values okP _ _ b hV1) dL_law_311 (fun rw w hw => ?_)
  exact lz_eq (pc := 314) (tgt := 417) C (tp_aValues_one okP hu.1 hw.1) dL_law_314 (by decide) (lz_next C (ih P u w okP hu.2 hw.2))
theorem law_traps {E : lz_E} {i : Nat} {P : tp_P} {a b : tz_S} (C : lz_C E) (hi : i + 4 ≤ E.2.2.2.1) (ih : lz_ih E (i + 4)) (okP : tp_okP P) (hV0 : tp_V0 P a) (hV1 : tp_V1 P b) : lz_Z E 319 i [] a b := by
  refine lz_aload1 C dL_law_319 ?_
  refine lz_arg (pc := 320) C hi 1 (by decide) (by decide) dL_law_320 dL_law_321 dL_law_322 dL_law_323 dL_law_324 ?_
  refine lz_cX0_1 (pc := 325) C vLX0_traps (mX0_traps okP _ a hV0) dL_law_325 (fun ru u hu => ?_)
  refine lz_aload2 C dL_law_328 ?_
  refine lz_arg (pc := 329) C hi 1 (by decide) (by decide) dL_law_329 dL_law_330 dL_law_331 dL_law_332 dL_law_333 ?_
  refine lz_cX1_1 (pc := 334) C vLX1_traps (mX1_traps okP _ b hV1) dL_law_334 (fun rw w hw => ?_)
  exact lz_eq (pc := 337) (tgt := 417) C (tp_aTraps_one okP hu.1 hw.1) dL_law_337 (by decide) (lz_next C (ih P u w okP hu.2 hw.2))
theorem law_safe {E : lz_E} {i : Nat} {P : tp_P} {a b : tz_S} (C : lz_C E) (hi : i + 4 ≤ E.2.2.2.1) (ih : lz_ih E (i + 4)) (okP : tp_okP P) (hV0 : tp_V0 P a) (hV1 : tp_V1 P b) : lz_Z E 342 i [] a b := by
  refine lz_aload1 C dL_law_342 ?_
  refine lz_cX0_0 (pc := 343) C vLX0_safe (mX0_safe okP a hV0) dL_law_343 (fun ru u hu => ?_)
  refine lz_aload2 C dL_law_346 ?_
  refine lz_cX1_0 (pc := 347) C vLX1_safe (mX1_safe okP b hV1) dL_law_347 (fun rw w hw => ?_)
  exact lz_eq (pc := 350) (tgt := 417) C (tp_aSafe_one okP hu.1 hw.1) dL_law_350 (by decide) (lz_next C (ih P u w okP hu.2 hw.2))
theorem law_soonest {E : lz_E} {i : Nat} {P : tp_P} {a b : tz_S} (C : lz_C E) (hi : i + 4 ≤ E.2.2.2.1) (ih : lz_ih E (i + 4)) (okP : tp_okP P) (hV0 : tp_V0 P a) (hV1 : tp_V1 P b) : lz_Z E 355 i [] a b := by
  refine lz_aload1 C dL_law_355 ?_
  refine lz_arg (pc := 356) C hi 1 (by decide) (by decide) dL_law_356 dL_law_357 dL_law_358 dL_law_359 dL_law_360 ?_
  refine lz_cX0_1 (pc := 361) C vLX0_soonest (mX0_soonest okP _ a hV0) dL_law_361 (fun ru u hu => ?_)
  refine lz_aload2 C dL_law_364 ?_
  refine lz_arg (pc := 365) C hi 1 (by decide) (by decide) dL_law_365 dL_law_366 dL_law_367 dL_law_368 dL_law_369 ?_
  refine lz_cX1_1 (pc := 370) C vLX1_soonest (mX1_soonest okP _ b hV1) dL_law_370 (fun rw w hw => ?_)
  exact lz_eq (pc := 373) (tgt := 417) C (tp_aSoonest_one okP hu.1 hw.1) dL_law_373 (by decide) (lz_next C (ih P u w okP hu.2 hw.2))
theorem law_canEnd {E : lz_E} {i : Nat} {P : tp_P} {a b : tz_S} (C : lz_C E) (hi : i + 4 ≤ E.2.2.2.1) (ih : lz_ih E (i + 4)) (okP : tp_okP P) (hV0 : tp_V0 P a) (hV1 : tp_V1 P b) : lz_Z E 378 i [] a b := by
  refine lz_aload1 C dL_law_378 ?_
  refine lz_cX0_0 (pc := 379) C vLX0_canEnd (mX0_canEnd okP a hV0) dL_law_379 (fun ru u hu => ?_)
  refine lz_aload2 C dL_law_382 ?_
  refine lz_cX1_0 (pc := 383) C vLX1_canEnd (mX1_canEnd okP b hV1) dL_law_383 (fun rw w hw => ?_)
  exact lz_eq (pc := 386) (tgt := 417) C (tp_aCanEnd_one hu.1 hw.1) dL_law_386 (by decide) (lz_next C (ih P u w okP hu.2 hw.2))
theorem law_canRunForever {E : lz_E} {i : Nat} {P : tp_P} {a b : tz_S} (C : lz_C E) (hi : i + 4 ≤ E.2.2.2.1) (ih : lz_ih E (i + 4)) (okP : tp_okP P) (hV0 : tp_V0 P a) (hV1 : tp_V1 P b) : lz_Z E 391 i [] a b := by
  refine lz_aload1 C dL_law_391 ?_
  refine lz_cX0_0 (pc := 392) C vLX0_canRunForever (mX0_canRunForever okP a hV0) dL_law_392 (fun ru u hu => ?_)
  refine lz_aload2 C dL_law_395 ?_
  refine lz_cX1_0 (pc := 396) C vLX1_canRunForever (mX1_canRunForever okP b hV1) dL_law_396 (fun rw w hw => ?_)
  exact lz_eq (pc := 399) (tgt := 417) C (tp_aForever_one hu.1 hw.1) dL_law_399 (by decide) (lz_next C (ih P u w okP hu.2 hw.2))
theorem law_endless {E : lz_E} {i : Nat} {P : tp_P} {a b : tz_S} (C : lz_C E) (hi : i + 4 ≤ E.2.2.2.1) (ih : lz_ih E (i + 4)) (okP : tp_okP P) (hV0 : tp_V0 P a) (hV1 : tp_V1 P b) : lz_Z E 404 i [] a b := by
  refine lz_aload1 C dL_law_404 ?_
  refine lz_cX0_0 (pc := 405) C vLX0_endless (mX0_endless okP a hV0) dL_law_405 (fun ru u hu => ?_)
  refine lz_aload2 C dL_law_408 ?_
  refine lz_cX1_0 (pc := 409) C vLX1_endless (mX1_endless okP b hV1) dL_law_409 (fun rw w hw => ?_)
  obtain ⟨hv, al, fs, en, u1, u2, u3⟩ := hu
  obtain ⟨hv', al', fs', en', w1, w2, w3⟩ := hw
  exact lz_eq (pc := 412) (tgt := 417) C (tp_aEndless_one ⟨hv, al, fs, en, u1, u2⟩ ⟨hv', al', fs', en', w1, w2⟩) dL_law_412 (by decide) (lz_next C (ih P u w okP u3 w3))
theorem law_loop {E : lz_E} (C : lz_C E) : ∀ (n i : Nat), E.2.2.2.1 < i + n → i ≤ 260 → lz_ih E i := by
  intro n
  have hL := C.2.1
  induction n with
  | zero =>
    intro i h1 h2 P a b okP hV0 hV1
    exact lz_head C h2 (fun _ => lz_exit C) (fun q => absurd q (by omega))
  | succ n ih =>
    intro i h1 h2 P a b okP hV0 hV1
    refine lz_head C h2 (fun _ => lz_exit C) (fun hi => lz_sw C hi ?_)
    have ih := ih (i + 4) (by omega) (by omega)
    have hlo := tp_lo_lt (E.2.2.2.2 i)
    generalize tp_lo (E.2.2.2.2 i) = q at hlo
    rcases (show q = 0 ∨ q = 1 ∨ q = 2 ∨ q = 3 ∨ q = 4 ∨ q = 5 ∨ q = 6 ∨ q = 7 ∨ q = 8 ∨ q = 9 ∨ q = 10 ∨ q = 11 ∨ q = 12 ∨ q = 13 ∨ q = 14 ∨ q = 15 by omega) with rfl | rfl | rfl | rfl | rfl | rfl | rfl | rfl | rfl | rfl | rfl | rfl | rfl | rfl | rfl | rfl
    · exact lz_tsw (tgt := 100) C dL_law_32 (by decide) (by decide) rfl (by decide) (law_emit C hi ih okP hV0 hV1)
    · exact lz_tsw (tgt := 133) C dL_law_32 (by decide) (by decide) rfl (by decide) (law_patch C hi ih okP hV0 hV1)
    · exact lz_tsw (tgt := 166) C dL_law_32 (by decide) (by decide) rfl (by decide) (law_begin C hi ih okP hV0 hV1)
    · exact lz_tsw (tgt := 209) C dL_law_32 (by decide) (by decide) rfl (by decide) (law_clear C hi ih okP hV0 hV1)
    · exact lz_tsw (tgt := 220) C dL_law_32 (by decide) (by decide) rfl (by decide) (law_states C hi ih okP hV0 hV1)
    · exact lz_tsw (tgt := 243) C dL_law_32 (by decide) (by decide) rfl (by decide) (law_possible C hi ih okP hV0 hV1)
    · exact lz_tsw (tgt := 286) C dL_law_32 (by decide) (by decide) rfl (by decide) (law_values C hi ih okP hV0 hV1)
    · exact lz_tsw (tgt := 319) C dL_law_32 (by decide) (by decide) rfl (by decide) (law_traps C hi ih okP hV0 hV1)
    · exact lz_tsw (tgt := 342) C dL_law_32 (by decide) (by decide) rfl (by decide) (law_safe C hi ih okP hV0 hV1)
    · exact lz_tsw (tgt := 355) C dL_law_32 (by decide) (by decide) rfl (by decide) (law_soonest C hi ih okP hV0 hV1)
    · exact lz_tsw (tgt := 378) C dL_law_32 (by decide) (by decide) rfl (by decide) (law_canEnd C hi ih okP hV0 hV1)
    · exact lz_tsw (tgt := 391) C dL_law_32 (by decide) (by decide) rfl (by decide) (law_canRunForever C hi ih okP hV0 hV1)
    · exact lz_tsw (tgt := 404) C dL_law_32 (by decide) (by decide) rfl (by decide) (law_endless C hi ih okP hV0 hV1)
    · exact lz_tsd (tgt := 417) C dL_law_32 (Or.inr (by decide)) (by decide) (lz_next C (ih P a b okP hV0 hV1))
    · exact lz_tsd (tgt := 417) C dL_law_32 (Or.inr (by decide)) (by decide) (lz_next C (ih P a b okP hV0 hV1))
    · exact lz_tsd (tgt := 417) C dL_law_32 (Or.inr (by decide)) (by decide) (lz_next C (ih P a b okP hV0 hV1))
end
section
/-! THE LAW's start: two objects are made; then its loop -/
set_option maxRecDepth 100000
/-- an empty program -/
def cz_P : tp_P := (0, fun _ => 0, fun _ => 0, fun _ => 0, fun r => if r = 1 then 15 else if r = 0 then 15 else 0)
theorem cz_okP : tp_okP cz_P := ⟨Nat.zero_le _, fun _ => Nat.zero_le _, fun r => ⟨Nat.zero_le _, by
  show (if r = 1 then 15 else if r = 0 then 15 else 0) ≤ 15
  split
  · exact Nat.le_refl _
  · split
    · exact Nat.le_refl _
    · exact Nat.zero_le _⟩⟩
theorem cz_has : tp_has cz_P cz_a := by
  refine ⟨?_, fun p => ?_, fun p => ?_, fun r => ?_, fun r => ?_⟩
  · rfl
  · rfl
  · rfl
  · rfl
  · show tz_sw (tz_sw (fun _ _ => 0) 4 0 (nI 15)) 4 1 (nI 15) 4 r = nI (if r = 1 then 15 else if r = 0 then 15 else 0)
    rw [tz_sw_at, tz_sw_at]
    by_cases h1 : r = 1
    · rw [if_pos h1, if_pos h1]
    · rw [if_neg h1, if_neg h1]
      by_cases h0 : r = 0
      · rw [if_pos h0, if_pos h0]
      · rw [if_neg h0, if_neg h0]; rfl
theorem cz_V0 : tp_V0 cz_P cz_a := tp_V0_has cz_has rfl
theorem cz_V1 : tp_V1 cz_P cz_a := tp_V1_has cz_has rfl
theorem cz_dX0 : ∀ j, j < 16 → defaultValue (tyX0 j) = vp_V fs0X0 j := by
  intro j hj
  rcases (show j = 0 ∨ j = 1 ∨ j = 2 ∨ j = 3 ∨ j = 4 ∨ j = 5 ∨ j = 6 ∨ j = 7 ∨ j = 8 ∨ j = 9 ∨ j = 10 ∨ j = 11 ∨ j = 12 ∨ j = 13 ∨ j = 14 ∨ j = 15 by omega) with rfl | rfl | rfl | rfl | rfl | rfl | rfl | rfl | rfl | rfl | rfl | rfl | rfl | rfl | rfl | rfl <;> rfl
theorem cz_dX1 : ∀ j, j < 13 → defaultValue (tyX1 j) = vp_V fs0X1 j := by
  intro j hj
  rcases (show j = 0 ∨ j = 1 ∨ j = 2 ∨ j = 3 ∨ j = 4 ∨ j = 5 ∨ j = 6 ∨ j = 7 ∨ j = 8 ∨ j = 9 ∨ j = 10 ∨ j = 11 ∨ j = 12 by omega) with rfl | rfl | rfl | rfl | rfl | rfl | rfl | rfl | rfl | rfl | rfl | rfl | rfl <;> rfl
set_option maxHeartbeats 4000000 in
theorem whole_start {p : Program} {e : Env} {s : State} {m : MethodId} {below : List Frame} {meth : Method} {c : Code} (l : Launch) {b L : Nat} {xs : Nat → Int32} (hL : L ≤ 256) (C0 : lw_At p s m meth c b L xs) : W p l e room_1 s m #[Value.ref b] below meth c s.heap [] 0 0 (lw_Z below #[Value.ref b] s) (entryFrame m ([Value.ref b] : List Value).toArray 4) := by
  obtain ⟨hx, hb, hr, hml, hown, hts0, hX, hbl, hlocks, hgv⟩ := id C0
  have hts : ∀ w ∈ lw_all, w.before #[Value.ref b] s = true := fun w h => hts0 w (lw_all_tbl h)
  obtain ⟨c0, iS0, hKn0⟩ := u_known (C := RX0) (T := TX0) (N := 16) (n := 16) hts in_X0 (hts _ q31)
  obtain ⟨c1, iS1, hKn1⟩ := u_known (C := RX1) (T := TX1) (N := 13) (n := 13) hts in_X1 (hts _ q221)
  obtain ⟨D, hKc⟩ : ∃ D : va_G, ∀ (k : Nat) (q : vw_C), vwCl[k]? = some q → u_Kn s q.1 q.2.1 q.2.2 (D.1 k) (D.2 k) := by
    refine ⟨(fun k => if k = 0 then c0 else c1, fun k => if k = 0 then iS0 else iS1), ?_⟩
    intro k q hq
    match k, hq with
    | 0, hq => cases hq; exact hKn0
    | 1, hq => cases hq; exact hKn1
    | k + 2, hq => simp [vwCl] at hq
  have hA : ∀ q : Nat, s.heap.size ≤ q → (fun q : Nat => s.heap.size ≤ q) q := fun _ h => h
  have hS : va_S (fun q : Nat => s.heap.size ≤ q) s.heap s.heap [] := va_S.rf
  have hK : va_K D vwCl [] s := ⟨hKc, fun k q h => by simp at h⟩
  have hP : va_P D vwCl [] s.heap := fun k q h => by simp at h
  have hD : va_D (fun q : Nat => s.heap.size ≤ q) [] := ⟨fun i j p q h => by simp at h, fun k q h => by simp at h⟩
  have hl := tz_lv0_zl [Value.ref b] (fun v hv => by simp at hv; rw [hv]; rfl) (nL := 4) (Nat.le_of_ble_eq_true rfl)
  rw [lg_entry_eq]
  generalize (lg_sl ([Value.ref b]) ++ List.replicate (4 - (lg_sl ([Value.ref b])).length) Slot.unset).toArray = ls at hl ⊢
  have hl : tz_zl ls 4 [some (.ref b), none, none, none] := hl
  refine va_new (ci := 0) (fs := fs0X0) (C := RX0) (T := TX0) (N := 16) hx hb hts in_X0 tyX0 tyX0_ok hown (hts _ q30) (hts _ q31) (hts _ q28) hK hP hD hS hA rfl cz_dX0 (Nat.le_of_ble_eq_true rfl) (Nat.le_of_ble_eq_true rfl) dL_law_0 (fun q0 H hP hD hS => ?_)
  have hP : va_P D vwCl (wnX0 q0) H := hP
  have hD : va_D (fun q : Nat => s.heap.size ≤ q) (wnX0 q0) := hD
  refine lv_dup hx hb dL_law_3 rfl ?_
  have hF : ∀ q, va_A (wnX0 q0) H.size q → s.heap.size ≤ q := fun q hq => by
    rcases hq with ⟨k, e, hk⟩ | hq
    · exact hD.2 k _ hk
    · exact Nat.le_trans hS.1 hq
  refine va_callv (va_runI (As := []) (rest := [.ref q0]) ⟨hx, hb, hml, hown, hts⟩ (nX0_init l D q0 H.size) (cwI 0 hts (lw_meth q34) rfl rfl rfl (hts _ q28) (hts _ q32) (hts _ q33) rfl (by decide +kernel) ⟨Nat.le_of_ble_eq_true rfl, Nat.le_of_ble_eq_true rfl⟩) ⟨fun a U g mk q => by obtain ⟨q0, q1, qP, qK, qD⟩ := q; exact ⟨q0, q1, qP, va_K.moved (u := U) (U := U.calling g mk a) (Vm.Alike.refl U.vm) qK, qD⟩, fun U hU hW => ⟨rfl, by rw [hU], by rw [hU]; exact hP, va_K.moved hW.alike hK, hD.weaken (fun _ _ _ _ => trivial)⟩⟩ rfl rfl hl.1 rfl (lv_room (Nat.le_of_ble_eq_true rfl)) dL_law_4 ⟨Nat.le_of_ble_eq_true rfl, Nat.le_of_ble_eq_true rfl⟩) hS (fun q _ h => hF q h) hF (fun u t H1 locs1 ht hvm hw hB hz1 hk1 hS1 => ?_)
  obtain ⟨h, d⟩ := u
  have hw : h 0 = q0 := hw
  subst hw
  obtain ⟨hP1, hK1, hD1⟩ := hB
  rw [ht] at hP1
  have hK1 : va_K D vwCl [(d, .int)] s := va_K.moved hvm.symm hK1
  have hP1 : va_P D vwCl (wrldX0 h d cz_a) H1 := hP1
  have hD1 : va_D (fun q : Nat => s.heap.size ≤ q) (wrldX0 h d cz_a) := hD1.weaken (fun k q _ z => hF q.1 z)
  clear hP hD hS hF hk1 hz1 ht hvm
  refine lv_astore_n (i := 1) hx hb dL_law_7 rfl (tz_zl_has hl) (by decide) rfl (fun ls hl' => ?_)
  have hl : tz_zl ls 4 [some (.ref b), some (.ref (h 0)), none, none] := tz_zl_set hl rfl hl'
  clear hl'
  refine va_new (ci := 1) (fs := fs0X1) (C := RX1) (T := TX1) (N := 13) hx hb hts in_X1 tyX1 tyX1_ok hown (hts _ q220) (hts _ q221) (hts _ q29) hK hP1 hD1 hS1 hA rfl cz_dX1 (Nat.le_of_ble_eq_true rfl) (Nat.le_of_ble_eq_true rfl) dL_law_8 (fun q1 H hP hD hS => ?_)
  have hP : va_P D vwCl (wnX1 q1 ++ wrldX0 h d cz_a) H := lz_Ps hP
  have hD : va_D (fun q : Nat => s.heap.size ≤ q) (wnX1 q1 ++ wrldX0 h d cz_a) := lz_Ds hD
  have hPc := lz_Pl hP
  have hDc := lz_Dl hD
  refine lv_dup hx hb dL_law_11 rfl ?_
  have hF : ∀ q, va_A (wnX1 q1) H.size q → s.heap.size ≤ q := fun q hq => by
    rcases hq with ⟨k, e, hk⟩ | hq
    · exact hDc.2 k _ hk
    · exact Nat.le_trans hS.1 hq
  refine va_callv (va_runI (As := []) (rest := [.ref q1]) ⟨hx, hb, hml, hown, hts⟩ (nX1_init l D q1 H.size) (cwI 0 hts (lw_meth q224) rfl rfl rfl (hts _ q29) (hts _ q222) (hts _ q223) rfl (by decide +kernel) ⟨Nat.le_of_ble_eq_true rfl, Nat.le_of_ble_eq_true rfl⟩) ⟨fun a U g mk q => by obtain ⟨q0, q1, qP, qK, qD⟩ := q; exact ⟨q0, q1, qP, va_K.moved (u := U) (U := U.calling g mk a) (Vm.Alike.refl U.vm) qK, qD⟩, fun U hU hW => ⟨rfl, by rw [hU], by rw [hU]; exact hPc, va_K.moved hW.alike hK, hDc.weaken (fun _ _ _ _ => trivial)⟩⟩ rfl rfl hl.1 rfl (lv_room (Nat.le_of_ble_eq_true rfl)) dL_law_12 ⟨Nat.le_of_ble_eq_true rfl, Nat.le_of_ble_eq_true rfl⟩) hS (fun q _ h => hF q h) hF (fun u t H2 locs2 ht hvm hw hB hz2 hk2 hS2 => ?_)
  obtain ⟨g, d'⟩ := u
  have hw : g 0 = q1 := hw
  subst hw
  obtain ⟨hP2, hK2, hD2⟩ := hB
  rw [ht] at hP2
  have hK2 : va_K D vwCl [(d', .int)] s := va_K.moved hvm.symm hK2
  have e1 : va_RA s d .int := (hK1.2 0 (d, .int) rfl).2
  have e2 : va_RA s d' .int := (hK2.2 0 (d', .int) rfl).2
  have ed : d' = d := Option.some.inj (e2.symm.trans e1)
  subst ed
  obtain ⟨hP3, hD3⟩ := lz_join hP hD hk2 hF hP2 hD2
  have hP3 := lz_Ps hP3
  have hD3 := lz_Ds hD3
  refine lv_astore_n (i := 2) hx hb dL_law_15 rfl (tz_zl_has hl) (by decide) rfl (fun ls hl' => ?_)
  have hl : tz_zl ls 4 [some (.ref b), some (.ref (h 0)), some (.ref (g 0)), none] := tz_zl_set hl rfl hl'
  clear hl'
  refine lv_iconst (v := nI 0) hx hb dL_law_16 (by decide) ?_
  refine lv_istore_n (i := 3) hx hb dL_law_17 rfl (tz_zl_has hl) (by decide) rfl (fun ls hl' => ?_)
  have hl : tz_zl ls 4 [some (.ref b), some (.ref (h 0)), some (.ref (g 0)), some (.int (nI 0))] := tz_zl_set hl rfl hl'
  clear hl'
  refine W.widen (k := 25) (n := 2261) (Nat.le_of_ble_eq_true rfl) (Nat.le_of_ble_eq_true rfl) ?_
  exact law_loop (E := ((p, l, e, s, m, below, meth, c), (D, h, g, d'), (b, L, xs))) ⟨C0, hL, hK2⟩ (L + 1) 0 (show L < 0 + (L + 1) by omega) (by decide) cz_P cz_a cz_a cz_okP cz_V0 cz_V1 H2 locs2 ls hP3 hD3 hS2 hl
end
section
set_option maxRecDepth 100000
set_option maxHeartbeats 4000000 in
theorem lw_walk (l : Launch) (b : Addr) (xs : List Int32) : MetFree l x (headSpec (Jvm.Cond.code x code maxLocals ret :: tables_1) room_1) (lw_P b xs) (fun _ _ _ _ _ => True) lw_Q := by
  refine MetFree.of_bodyS (code := code) (maxLocals := maxLocals) (ret := ret) (by decide) ?_ ?_
  · intro args s m h hn
    obtain ⟨meth, c, h1, h2, h3, h4, h5, h6, -, -⟩ := Cond.code_spec hn (atoms_spec (ws := Jvm.Cond.code x code maxLocals ret :: tables_1) h _ List.mem_cons_self)
    exact ⟨meth, c, h1, h2, h3, h4, h5, h6⟩
  · intro p e s m args below meth c s₁ B hml0 hP _
    obtain ⟨rfl, hx, hbd, hgv⟩ := hP
    obtain ⟨scr, harrAt, hlist, hof, hsmall⟩ := hx
    obtain ⟨hcb, hkn, -, -⟩ := State.arrayAt?_spec harrAt
    have hown : s.vm.findClass R_law = some m.cls := findClass_of_methodNamed B.named
    have hts0 : ∀ c ∈ (Jvm.Cond.code x code maxLocals ret :: tables_1), c.before #[Value.ref b] s = true := atoms_spec (ws := Jvm.Cond.code x code maxLocals ret :: tables_1) B.pre
    have hts : ∀ w ∈ lw_tbl, w.before #[Value.ref b] s = true := k2_hts_sels lw_privs (fun w hw => hts0 w (List.mem_cons_of_mem _ hw)) lw_privs_ok
    have hml : c.maxLocals = 4 := B.maxLocals_eq (hts0 _ List.mem_cons_self)
    have X₀ : Stand p l e room_1 s m #[Value.ref b] below meth c s₁ [] 0 0 := Stand.of_body B
    have hh0 : s₁.heap = s.heap := by rw [B.state]; rfl
    have hsz : scr.slots.size = xs.length := by rw [← Array.length_toList, hlist, List.length_map]
    have hval : ∀ j : Nat, j < xs.length → scr.slots[j]? = some (.int (xs.getD j 0)) := fun j hj => by
      rw [← Array.getElem?_toList, hlist]
      simp [hj]
    have hbl : b < s.heap.size := (Array.getElem?_eq_some_iff.mp hcb).1
    have hX : va_X b xs.length (fun j => xs.getD j 0) s s.heap := ⟨scr, hcb, hof, hkn, hsz, hval⟩
    have K : W p l e room_1 s m #[Value.ref b] below meth c s₁.heap [] 0 0 (lw_Z below #[Value.ref b] s) (entryFrame m ([Value.ref b] : List Value).toArray 4) := by
      rw [hh0]
      exact whole_start l hbd ⟨B.exec, B.bytes, B.returns, hml, hown, hts, hX, hbl, B.notSynchronized, hgv⟩
    obtain ⟨t, a1, o, b1, b2, b3⟩ := K s₁ rfl X₀
    exact ⟨t, o, a1, b1, b2, b3⟩
theorem lw_pre_spec {args : Array Value} {s : State} (h : (Jvm.Cond.and given_1 narrow_1).before args s = true) (hr : rest_1_c.before args s = true) : ∃ (b : Addr) (xs : List Int32), lw_P b xs args s := by
  have hs := flat_of_before _ h
  have hq := flat_of_before _ hr
  have hc : (Cond.count 1).before args s = true := hs _ (by decide +kernel)
  have harr : (Cond.arrayOf (.arg 0) .int).before args s = true := hs _ (by decide +kernel)
  have hle : (Cond.le (.length (.arg 0)) (.int 256)).before args s = true := hs _ (by decide +kernel)
  have hlen : (Cond.isInt (.length (.arg 0))).before args s = true := hq _ (by decide +kernel)
  have hall : (Cond.all (.arg 0) (.isInt (.elem (.arg 0) (.index 0)))).before args s = true := hq _ (by decide +kernel)
  obtain ⟨b, xs, hb, hx⟩ := State.ints_of_pre rfl harr hlen hall
  have hsm : xs.length < 2 ^ 31 := hx.choose_spec.2.2.2
  have hev : (Term.length (.arg 0)).eval args s none [] s = some (.int xs.length.toInt32) := hx.length_eval hb
  have hv := Cond.le_ints hev (show (Term.int 256).eval args s none [] s = some (.int 256) from rfl)
  have hd : xs.length.toInt32 ≤ 256 := by
    simpa [Cond.before, Cond.holds, hv] using hle
  have hN : xs.length ≤ 256 := (Int32.ofNat_le_ofNat hsm (by decide)).mp (show Int32.ofNat xs.length ≤ Int32.ofNat 256 from hd)
  exact ⟨b, xs, Cond.one_arg hc (show args[0]? = some (.ref b) from hb), hx, hN, h⟩
theorem lw_comes (l : Launch) : Comes l x (Jvm.Cond.code x code maxLocals ret :: tables_1) room_1 (fun tb e args s => Calls_1 tb e args s ∧ rest_1 tb e args s ∧ Pre_1 tb e args s)
    (fun _ _ args s o t => lw_Q args s o t) := by
  intro p e ha hc hk s m args below hf hfit hheap happ hpre
  obtain ⟨b, xs, hP⟩ := lw_pre_spec hpre.2.2 hpre.2.1
  obtain ⟨k, o, h1, h2, h3, hQ⟩ := lw_walk l b xs p e ha hc hk s m args below hf ((Spec.applies_iff_loose hf).mp happ).1 hP trivial
  exact ⟨k, o, h1, h2, h3, hQ⟩
theorem lw_frame {s t : State} {o : Outcome} {args : Array Value} (h : Framed s o t [] 600000 7290000) :
    Framed s o t (fieldLocs frame_1_writes args s ++ arrayLocs frame_1_arrays args s ++ staticLocs frame_1_statics s) 600000 7290000 := h
theorem lw_limb (L : Cond) (hL : ∀ (args : Array Value) (s t : State), L.after args s (.returned (some (.int 1))) t = true) :
    ArmFor flags0 classFile x code maxLocals ret World_1 tables_1 room_1 Calls_1 rest_1 Pre_1
      (fun tb e a s o t => postC L tb e a s o t ∧ Framed s o t (fieldLocs frame_1_writes a s ++ arrayLocs frame_1_arrays a s ++ staticLocs frame_1_statics s) 600000 7290000) := by
  intro l _ _ _ p e ha hc hk s m args below hf hfit hheap happ hpre
  obtain ⟨k, o, h1, h2, h3, rfl, hF⟩ := lw_comes l p e ha hc hk s m args below hf hfit hheap happ hpre
  exact ⟨k, _, h1, h2, h3, hL args s _, lw_frame hF⟩
theorem i_vc : Claimed_1_1 ∧ Claimed_1_2 := ⟨lw_limb limb_1_1 (fun args s t => by simp [limb_1_1, Cond.after, Cond.holds, Cond.value]), lw_limb limb_1_2 (fun args s t => Cond.after_iff.mpr (by
  first | (rw [show limb_1_2 = Cond.eq .result (.int 1) from rfl, Cond.eq_ints (x := 1) (y := 1) rfl rfl]; simp; done) | (simp [limb_1_2, Cond.value, Term.eval]; done)))⟩
end
